section
-- ===== PART A: goes FIRST, ahead of the names: the tables' words, and 'selects' of the private methods out of them =====
/-- a private method of a class that the tables say can be made, by its rows of tables_1 -/
def lw_okq (q : MethodName × Nat) : Prop := (q.1.cls ≠ "java/lang/invoke/MethodHandle" ∧ q.1.cls ≠ "java/lang/invoke/VarHandle") ∧ Cond.instantiable q.1.cls q.2 ∈ tables_1 ∧ Cond.privateMethod q.1 ∈ tables_1 ∧ Cond.instanceMethod q.1 ∈ tables_1
theorem lw_p0 : lw_okq (⟨"ReplicaRing", "layRing", "()V"⟩, 21) := ⟨⟨by decide +kernel, by decide +kernel⟩, List.mem_of_getElem? (i := 4) (by decide +kernel), List.mem_of_getElem? (i := 12) (by decide +kernel), List.mem_of_getElem? (i := 13) (by decide +kernel)⟩
theorem lw_p1 : lw_okq (⟨"ReplicaRing", "isMember", "(I)Z"⟩, 21) := ⟨⟨by decide +kernel, by decide +kernel⟩, List.mem_of_getElem? (i := 4) (by decide +kernel), List.mem_of_getElem? (i := 16) (by decide +kernel), List.mem_of_getElem? (i := 17) (by decide +kernel)⟩
theorem lw_p2 : lw_okq (⟨"ReplicaRing", "enterRing", "(II)V"⟩, 21) := ⟨⟨by decide +kernel, by decide +kernel⟩, List.mem_of_getElem? (i := 4) (by decide +kernel), List.mem_of_getElem? (i := 27) (by decide +kernel), List.mem_of_getElem? (i := 28) (by decide +kernel)⟩
theorem lw_p3 : lw_okq (⟨"ReplicaRing", "isWorking", "(I)Z"⟩, 21) := ⟨⟨by decide +kernel, by decide +kernel⟩, List.mem_of_getElem? (i := 4) (by decide +kernel), List.mem_of_getElem? (i := 109) (by decide +kernel), List.mem_of_getElem? (i := 110) (by decide +kernel)⟩
theorem lw_p4 : lw_okq (⟨"ReplicaRing", "readNewest", "(II)V"⟩, 21) := ⟨⟨by decide +kernel, by decide +kernel⟩, List.mem_of_getElem? (i := 4) (by decide +kernel), List.mem_of_getElem? (i := 114) (by decide +kernel), List.mem_of_getElem? (i := 115) (by decide +kernel)⟩
theorem lw_p5 : lw_okq (⟨"ReplicaRing", "findKeepers", "(I)V"⟩, 21) := ⟨⟨by decide +kernel, by decide +kernel⟩, List.mem_of_getElem? (i := 4) (by decide +kernel), List.mem_of_getElem? (i := 118) (by decide +kernel), List.mem_of_getElem? (i := 119) (by decide +kernel)⟩
theorem lw_p6 : lw_okq (⟨"ReplicaRing", "startWork", "()V"⟩, 21) := ⟨⟨by decide +kernel, by decide +kernel⟩, List.mem_of_getElem? (i := 4) (by decide +kernel), List.mem_of_getElem? (i := 122) (by decide +kernel), List.mem_of_getElem? (i := 123) (by decide +kernel)⟩
theorem lw_p7 : lw_okq (⟨"ReplicaRing", "hasAnswered", "(I)Z"⟩, 21) := ⟨⟨by decide +kernel, by decide +kernel⟩, List.mem_of_getElem? (i := 4) (by decide +kernel), List.mem_of_getElem? (i := 129) (by decide +kernel), List.mem_of_getElem? (i := 130) (by decide +kernel)⟩
theorem lw_p8 : lw_okq (⟨"ReplicaRing", "comesThrough", "(II)Z"⟩, 21) := ⟨⟨by decide +kernel, by decide +kernel⟩, List.mem_of_getElem? (i := 4) (by decide +kernel), List.mem_of_getElem? (i := 133) (by decide +kernel), List.mem_of_getElem? (i := 134) (by decide +kernel)⟩
theorem lw_p9 : lw_okq (⟨"ReplicaRing", "hear", "(II)V"⟩, 21) := ⟨⟨by decide +kernel, by decide +kernel⟩, List.mem_of_getElem? (i := 4) (by decide +kernel), List.mem_of_getElem? (i := 137) (by decide +kernel), List.mem_of_getElem? (i := 138) (by decide +kernel)⟩
theorem lw_p10 : lw_okq (⟨"ReplicaRing", "store", "(II)V"⟩, 21) := ⟨⟨by decide +kernel, by decide +kernel⟩, List.mem_of_getElem? (i := 4) (by decide +kernel), List.mem_of_getElem? (i := 141) (by decide +kernel), List.mem_of_getElem? (i := 142) (by decide +kernel)⟩
theorem lw_p11 : lw_okq (⟨"ReplicaRing", "readNumber", "()I"⟩, 21) := ⟨⟨by decide +kernel, by decide +kernel⟩, List.mem_of_getElem? (i := 4) (by decide +kernel), List.mem_of_getElem? (i := 145) (by decide +kernel), List.mem_of_getElem? (i := 146) (by decide +kernel)⟩
theorem lw_p12 : lw_okq (⟨"ReplicaRing", "change", "(IIIZ)V"⟩, 21) := ⟨⟨by decide +kernel, by decide +kernel⟩, List.mem_of_getElem? (i := 4) (by decide +kernel), List.mem_of_getElem? (i := 150) (by decide +kernel), List.mem_of_getElem? (i := 151) (by decide +kernel)⟩
theorem lw_p13 : lw_okq (⟨"ReplicaRing", "writeNewest", "(III)V"⟩, 21) := ⟨⟨by decide +kernel, by decide +kernel⟩, List.mem_of_getElem? (i := 4) (by decide +kernel), List.mem_of_getElem? (i := 154) (by decide +kernel), List.mem_of_getElem? (i := 155) (by decide +kernel)⟩
theorem lw_p14 : lw_okq (⟨"ReplicaRing", "hint", "(III)V"⟩, 21) := ⟨⟨by decide +kernel, by decide +kernel⟩, List.mem_of_getElem? (i := 4) (by decide +kernel), List.mem_of_getElem? (i := 158) (by decide +kernel), List.mem_of_getElem? (i := 159) (by decide +kernel)⟩
theorem lw_p15 : lw_okq (⟨"ReplicaRing", "erase", "(II)V"⟩, 21) := ⟨⟨by decide +kernel, by decide +kernel⟩, List.mem_of_getElem? (i := 4) (by decide +kernel), List.mem_of_getElem? (i := 182) (by decide +kernel), List.mem_of_getElem? (i := 183) (by decide +kernel)⟩
def lw_privs_1 : List (MethodName × Nat) := [(⟨"ReplicaRing", "layRing", "()V"⟩, 21), (⟨"ReplicaRing", "isMember", "(I)Z"⟩, 21), (⟨"ReplicaRing", "enterRing", "(II)V"⟩, 21), (⟨"ReplicaRing", "isWorking", "(I)Z"⟩, 21), (⟨"ReplicaRing", "readNewest", "(II)V"⟩, 21), (⟨"ReplicaRing", "findKeepers", "(I)V"⟩, 21), (⟨"ReplicaRing", "startWork", "()V"⟩, 21), (⟨"ReplicaRing", "hasAnswered", "(I)Z"⟩, 21), (⟨"ReplicaRing", "comesThrough", "(II)Z"⟩, 21), (⟨"ReplicaRing", "hear", "(II)V"⟩, 21), (⟨"ReplicaRing", "store", "(II)V"⟩, 21), (⟨"ReplicaRing", "readNumber", "()I"⟩, 21), (⟨"ReplicaRing", "change", "(IIIZ)V"⟩, 21), (⟨"ReplicaRing", "writeNewest", "(III)V"⟩, 21), (⟨"ReplicaRing", "hint", "(III)V"⟩, 21), (⟨"ReplicaRing", "erase", "(II)V"⟩, 21)]
theorem lw_r1 : ∀ q ∈ lw_privs_1, lw_okq q := List.forall_mem_cons.mpr ⟨lw_p0, List.forall_mem_cons.mpr ⟨lw_p1, List.forall_mem_cons.mpr ⟨lw_p2, List.forall_mem_cons.mpr ⟨lw_p3, List.forall_mem_cons.mpr ⟨lw_p4, List.forall_mem_cons.mpr ⟨lw_p5, List.forall_mem_cons.mpr ⟨lw_p6, List.forall_mem_cons.mpr ⟨lw_p7, List.forall_mem_cons.mpr ⟨lw_p8, List.forall_mem_cons.mpr ⟨lw_p9, List.forall_mem_cons.mpr ⟨lw_p10, List.forall_mem_cons.mpr ⟨lw_p11, List.forall_mem_cons.mpr ⟨lw_p12, List.forall_mem_cons.mpr ⟨lw_p13, List.forall_mem_cons.mpr ⟨lw_p14, List.forall_mem_cons.mpr ⟨lw_p15, fun _ h => absurd h List.not_mem_nil⟩⟩⟩⟩⟩⟩⟩⟩⟩⟩⟩⟩⟩⟩⟩⟩
theorem lw_p16 : lw_okq (⟨"ReplicaRing", "handOver", "(II)V"⟩, 21) := ⟨⟨by decide +kernel, by decide +kernel⟩, List.mem_of_getElem? (i := 4) (by decide +kernel), List.mem_of_getElem? (i := 186) (by decide +kernel), List.mem_of_getElem? (i := 187) (by decide +kernel)⟩
theorem lw_p17 : lw_okq (⟨"ReplicaRing", "compare", "(II)V"⟩, 21) := ⟨⟨by decide +kernel, by decide +kernel⟩, List.mem_of_getElem? (i := 4) (by decide +kernel), List.mem_of_getElem? (i := 190) (by decide +kernel), List.mem_of_getElem? (i := 191) (by decide +kernel)⟩
theorem lw_p18 : lw_okq (⟨"ReplicaRing", "growTrees", "(II)V"⟩, 21) := ⟨⟨by decide +kernel, by decide +kernel⟩, List.mem_of_getElem? (i := 4) (by decide +kernel), List.mem_of_getElem? (i := 194) (by decide +kernel), List.mem_of_getElem? (i := 195) (by decide +kernel)⟩
theorem lw_p19 : lw_okq (⟨"ReplicaRing", "leaf", "(III)I"⟩, 21) := ⟨⟨by decide +kernel, by decide +kernel⟩, List.mem_of_getElem? (i := 4) (by decide +kernel), List.mem_of_getElem? (i := 198) (by decide +kernel), List.mem_of_getElem? (i := 199) (by decide +kernel)⟩
theorem lw_p20 : lw_okq (⟨"ReplicaRing", "keeps", "(II)Z"⟩, 21) := ⟨⟨by decide +kernel, by decide +kernel⟩, List.mem_of_getElem? (i := 4) (by decide +kernel), List.mem_of_getElem? (i := 202) (by decide +kernel), List.mem_of_getElem? (i := 203) (by decide +kernel)⟩
theorem lw_p21 : lw_okq (⟨"ReplicaRing", "exchange", "(III)V"⟩, 21) := ⟨⟨by decide +kernel, by decide +kernel⟩, List.mem_of_getElem? (i := 4) (by decide +kernel), List.mem_of_getElem? (i := 210) (by decide +kernel), List.mem_of_getElem? (i := 211) (by decide +kernel)⟩
theorem lw_p22 : lw_okq (⟨"ReplicaRing", "moveTo", "(I)V"⟩, 21) := ⟨⟨by decide +kernel, by decide +kernel⟩, List.mem_of_getElem? (i := 4) (by decide +kernel), List.mem_of_getElem? (i := 218) (by decide +kernel), List.mem_of_getElem? (i := 219) (by decide +kernel)⟩
theorem lw_p23 : lw_okq (⟨"ReplicaRing", "leader", "()I"⟩, 21) := ⟨⟨by decide +kernel, by decide +kernel⟩, List.mem_of_getElem? (i := 4) (by decide +kernel), List.mem_of_getElem? (i := 222) (by decide +kernel), List.mem_of_getElem? (i := 223) (by decide +kernel)⟩
theorem lw_p24 : lw_okq (⟨"ReplicaRing", "dropOthers", "()V"⟩, 21) := ⟨⟨by decide +kernel, by decide +kernel⟩, List.mem_of_getElem? (i := 4) (by decide +kernel), List.mem_of_getElem? (i := 226) (by decide +kernel), List.mem_of_getElem? (i := 227) (by decide +kernel)⟩
theorem lw_p25 : lw_okq (⟨"ReplicaRing", "compareAll", "()V"⟩, 21) := ⟨⟨by decide +kernel, by decide +kernel⟩, List.mem_of_getElem? (i := 4) (by decide +kernel), List.mem_of_getElem? (i := 242) (by decide +kernel), List.mem_of_getElem? (i := 243) (by decide +kernel)⟩
theorem lw_p26 : lw_okq (⟨"ReplicaRing", "numberOf", "(I)I"⟩, 21) := ⟨⟨by decide +kernel, by decide +kernel⟩, List.mem_of_getElem? (i := 4) (by decide +kernel), List.mem_of_getElem? (i := 250) (by decide +kernel), List.mem_of_getElem? (i := 251) (by decide +kernel)⟩
theorem lw_p27 : lw_okq (⟨"ReplicaRingModel", "hindrance", "(III)I"⟩, 5) := ⟨⟨by decide +kernel, by decide +kernel⟩, List.mem_of_getElem? (i := 275) (by decide +kernel), List.mem_of_getElem? (i := 301) (by decide +kernel), List.mem_of_getElem? (i := 302) (by decide +kernel)⟩
theorem lw_p28 : lw_okq (⟨"ReplicaRingModel", "machine", "(I)Z"⟩, 5) := ⟨⟨by decide +kernel, by decide +kernel⟩, List.mem_of_getElem? (i := 275) (by decide +kernel), List.mem_of_getElem? (i := 305) (by decide +kernel), List.mem_of_getElem? (i := 306) (by decide +kernel)⟩
theorem lw_p29 : lw_okq (⟨"ReplicaRingModel", "key", "(I)Z"⟩, 5) := ⟨⟨by decide +kernel, by decide +kernel⟩, List.mem_of_getElem? (i := 275) (by decide +kernel), List.mem_of_getElem? (i := 309) (by decide +kernel), List.mem_of_getElem? (i := 310) (by decide +kernel)⟩
theorem lw_p30 : lw_okq (⟨"ReplicaRingModel", "fits", "(I)Z"⟩, 5) := ⟨⟨by decide +kernel, by decide +kernel⟩, List.mem_of_getElem? (i := 275) (by decide +kernel), List.mem_of_getElem? (i := 313) (by decide +kernel), List.mem_of_getElem? (i := 314) (by decide +kernel)⟩
theorem lw_p31 : lw_okq (⟨"ReplicaRingModel", "works", "(I)Z"⟩, 5) := ⟨⟨by decide +kernel, by decide +kernel⟩, List.mem_of_getElem? (i := 275) (by decide +kernel), List.mem_of_getElem? (i := 318) (by decide +kernel), List.mem_of_getElem? (i := 319) (by decide +kernel)⟩
def lw_privs_2 : List (MethodName × Nat) := [(⟨"ReplicaRing", "handOver", "(II)V"⟩, 21), (⟨"ReplicaRing", "compare", "(II)V"⟩, 21), (⟨"ReplicaRing", "growTrees", "(II)V"⟩, 21), (⟨"ReplicaRing", "leaf", "(III)I"⟩, 21), (⟨"ReplicaRing", "keeps", "(II)Z"⟩, 21), (⟨"ReplicaRing", "exchange", "(III)V"⟩, 21), (⟨"ReplicaRing", "moveTo", "(I)V"⟩, 21), (⟨"ReplicaRing", "leader", "()I"⟩, 21), (⟨"ReplicaRing", "dropOthers", "()V"⟩, 21), (⟨"ReplicaRing", "compareAll", "()V"⟩, 21), (⟨"ReplicaRing", "numberOf", "(I)I"⟩, 21), (⟨"ReplicaRingModel", "hindrance", "(III)I"⟩, 5), (⟨"ReplicaRingModel", "machine", "(I)Z"⟩, 5), (⟨"ReplicaRingModel", "key", "(I)Z"⟩, 5), (⟨"ReplicaRingModel", "fits", "(I)Z"⟩, 5), (⟨"ReplicaRingModel", "works", "(I)Z"⟩, 5)]
theorem lw_r2 : ∀ q ∈ lw_privs_2, lw_okq q := List.forall_mem_cons.mpr ⟨lw_p16, List.forall_mem_cons.mpr ⟨lw_p17, List.forall_mem_cons.mpr ⟨lw_p18, List.forall_mem_cons.mpr ⟨lw_p19, List.forall_mem_cons.mpr ⟨lw_p20, List.forall_mem_cons.mpr ⟨lw_p21, List.forall_mem_cons.mpr ⟨lw_p22, List.forall_mem_cons.mpr ⟨lw_p23, List.forall_mem_cons.mpr ⟨lw_p24, List.forall_mem_cons.mpr ⟨lw_p25, List.forall_mem_cons.mpr ⟨lw_p26, List.forall_mem_cons.mpr ⟨lw_p27, List.forall_mem_cons.mpr ⟨lw_p28, List.forall_mem_cons.mpr ⟨lw_p29, List.forall_mem_cons.mpr ⟨lw_p30, List.forall_mem_cons.mpr ⟨lw_p31, fun _ h => absurd h List.not_mem_nil⟩⟩⟩⟩⟩⟩⟩⟩⟩⟩⟩⟩⟩⟩⟩⟩
theorem lw_p32 : lw_okq (⟨"ReplicaRingModel", "member", "(I)Z"⟩, 5) := ⟨⟨by decide +kernel, by decide +kernel⟩, List.mem_of_getElem? (i := 275) (by decide +kernel), List.mem_of_getElem? (i := 322) (by decide +kernel), List.mem_of_getElem? (i := 323) (by decide +kernel)⟩
theorem lw_p33 : lw_okq (⟨"ReplicaRingModel", "found", "(I)I"⟩, 5) := ⟨⟨by decide +kernel, by decide +kernel⟩, List.mem_of_getElem? (i := 275) (by decide +kernel), List.mem_of_getElem? (i := 327) (by decide +kernel), List.mem_of_getElem? (i := 328) (by decide +kernel)⟩
theorem lw_p34 : lw_okq (⟨"ReplicaRingModel", "write", "(IZI)V"⟩, 5) := ⟨⟨by decide +kernel, by decide +kernel⟩, List.mem_of_getElem? (i := 275) (by decide +kernel), List.mem_of_getElem? (i := 332) (by decide +kernel), List.mem_of_getElem? (i := 333) (by decide +kernel)⟩
theorem lw_p35 : lw_okq (⟨"ReplicaRingModel", "many", "()I"⟩, 5) := ⟨⟨by decide +kernel, by decide +kernel⟩, List.mem_of_getElem? (i := 275) (by decide +kernel), List.mem_of_getElem? (i := 360) (by decide +kernel), List.mem_of_getElem? (i := 361) (by decide +kernel)⟩
def lw_privs_3 : List (MethodName × Nat) := [(⟨"ReplicaRingModel", "member", "(I)Z"⟩, 5), (⟨"ReplicaRingModel", "found", "(I)I"⟩, 5), (⟨"ReplicaRingModel", "write", "(IZI)V"⟩, 5), (⟨"ReplicaRingModel", "many", "()I"⟩, 5)]
theorem lw_r3 : ∀ q ∈ lw_privs_3, lw_okq q := List.forall_mem_cons.mpr ⟨lw_p32, List.forall_mem_cons.mpr ⟨lw_p33, List.forall_mem_cons.mpr ⟨lw_p34, List.forall_mem_cons.mpr ⟨lw_p35, fun _ h => absurd h List.not_mem_nil⟩⟩⟩⟩
def lw_privs : List (MethodName × Nat) := lw_privs_1 ++ (lw_privs_2 ++ (lw_privs_3))
def lw_tbl : List Cond := k2_sels lw_privs ++ tables_1
theorem lw_privs_ok : ∀ q ∈ lw_privs, lw_okq q := by
  show ∀ q ∈ lw_privs_1 ++ (lw_privs_2 ++ (lw_privs_3)), lw_okq q
  exact List.forall_mem_append.mpr ⟨lw_r1, List.forall_mem_append.mpr ⟨lw_r2, lw_r3⟩⟩
end
section
/-- the words of the tables that hold at every call -/
def gw_tbl : List Cond := lw_tbl.filter goodWord
def R_rr : String := "ReplicaRing"
def F_rr : u_T := fun k => match k with
  | 0 => ("ReplicaRing", "memberSet", "I", false)
  | 1 => ("ReplicaRing", "workingSet", "I", false)
  | 2 => ("ReplicaRing", "ringSize", "I", false)
  | 3 => ("ReplicaRing", "ringPoint", "[I", true)
  | 4 => ("ReplicaRing", "ringOwner", "[B", true)
  | 5 => ("ReplicaRing", "stamps", "[I", true)
  | 6 => ("ReplicaRing", "values", "[I", true)
  | 7 => ("ReplicaRing", "taken", "[Z", true)
  | 8 => ("ReplicaRing", "hintStamps", "[I", true)
  | 9 => ("ReplicaRing", "hintValues", "[I", true)
  | 10 => ("ReplicaRing", "hintTaken", "[Z", true)
  | 11 => ("ReplicaRing", "keeper", "[B", true)
  | 12 => ("ReplicaRing", "answered", "I", false)
  | 13 => ("ReplicaRing", "newStamp", "I", false)
  | 14 => ("ReplicaRing", "newValue", "I", false)
  | 15 => ("ReplicaRing", "newTaken", "Z", false)
  | 16 => ("ReplicaRing", "treeOne", "[I", true)
  | 17 => ("ReplicaRing", "treeOther", "[I", true)
  | 18 => ("ReplicaRing", "treeDiffers", "[Z", true)
  | 19 => ("ReplicaRing", "messages", "I", false)
  | _ => ("ReplicaRing", "loseLeft", "I", false)
def t_rr : Nat → FieldType := fun k => match k with
  | 0 => .int
  | 1 => .int
  | 2 => .int
  | 3 => (.array .int)
  | 4 => (.array .byte)
  | 5 => (.array .int)
  | 6 => (.array .int)
  | 7 => (.array .boolean)
  | 8 => (.array .int)
  | 9 => (.array .int)
  | 10 => (.array .boolean)
  | 11 => (.array .byte)
  | 12 => .int
  | 13 => .int
  | 14 => .int
  | 15 => .boolean
  | 16 => (.array .int)
  | 17 => (.array .int)
  | 18 => (.array .boolean)
  | 19 => .int
  | _ => .int
theorem n_rr : ∀ a, a < 21 → ∀ b, b < 21 → a ≠ b → (F_rr a).2.1 ≠ (F_rr b).2.1 := by decide +kernel
theorem t_rr_ok : ∀ k, k < 21 → parseFieldDescriptor (F_rr k).2.2.1 = some (t_rr k) := by decide +kernel
theorem i_rr : ∀ w ∈ u_ws R_rr F_rr 21, w ∈ gw_tbl := by decide +kernel
def R_md : String := "ReplicaRingModel"
def F_md : u_T := fun k => match k with
  | 0 => ("ReplicaRingModel", "numbers", "[I", false)
  | 1 => ("ReplicaRingModel", "there", "[Z", false)
  | 2 => ("ReplicaRingModel", "counts", "[I", false)
  | 3 => ("ReplicaRingModel", "ring", "I", false)
  | _ => ("ReplicaRingModel", "idle", "I", false)
def t_md : Nat → FieldType := fun k => match k with
  | 0 => (.array .int)
  | 1 => (.array .boolean)
  | 2 => (.array .int)
  | 3 => .int
  | _ => .int
theorem n_md : ∀ a, a < 5 → ∀ b, b < 5 → a ≠ b → (F_md a).2.1 ≠ (F_md b).2.1 := by decide +kernel
theorem t_md_ok : ∀ k, k < 5 → parseFieldDescriptor (F_md k).2.2.1 = some (t_md k) := by decide +kernel
theorem i_md : ∀ w ∈ u_ws R_md F_md 5, w ∈ gw_tbl := by decide +kernel
def R_law : String := "ReplicaRingLaw"
abbrev classes : List vw_C := [(R_rr, F_rr, 21), (R_md, F_md, 5)]
abbrev b_r_init : ByteArray := prog_1_method_1_code
def y_r_init : MethodName := ⟨R_rr, "<init>", "()V"⟩
def w_r_init : List Cond := .code y_r_init b_r_init 1 none :: gw_tbl
abbrev b_r_layRing : ByteArray := prog_1_method_9_code
def y_r_layRing : MethodName := ⟨R_rr, "layRing", "()V"⟩
def w_r_layRing : List Cond := .code y_r_layRing b_r_layRing 4 none :: gw_tbl
abbrev b_r_isMember : ByteArray := prog_1_method_5_code
def y_r_isMember : MethodName := ⟨R_rr, "isMember", "(I)Z"⟩
def w_r_isMember : List Cond := .code y_r_isMember b_r_isMember 2 (some .boolean) :: gw_tbl
abbrev b_r_isMachine : ByteArray := prog_1_method_2_code
def y_r_isMachine : MethodName := ⟨R_rr, "isMachine", "(I)Z"⟩
def w_r_isMachine : List Cond := .code y_r_isMachine b_r_isMachine 1 (some .boolean) :: gw_tbl
abbrev b_r_mixed : ByteArray := prog_1_method_8_code
def y_r_mixed : MethodName := ⟨R_rr, "mixed", "(I)I"⟩
def w_r_mixed : List Cond := .code y_r_mixed b_r_mixed 2 (some .int) :: gw_tbl
abbrev b_r_enterRing : ByteArray := prog_1_method_10_code
def y_r_enterRing : MethodName := ⟨R_rr, "enterRing", "(II)V"⟩
def w_r_enterRing : List Cond := .code y_r_enterRing b_r_enterRing 4 none :: gw_tbl
abbrev b_r_put : ByteArray := prog_1_method_24_code
def y_r_put : MethodName := ⟨R_rr, "put", "(III)I"⟩
def w_r_put : List Cond := .code y_r_put b_r_put 5 (some .int) :: gw_tbl
abbrev b_r_isKey : ByteArray := prog_1_method_3_code
def y_r_isKey : MethodName := ⟨R_rr, "isKey", "(I)Z"⟩
def w_r_isKey : List Cond := .code y_r_isKey b_r_isKey 1 (some .boolean) :: gw_tbl
abbrev b_r_isNumber : ByteArray := prog_1_method_4_code
def y_r_isNumber : MethodName := ⟨R_rr, "isNumber", "(I)Z"⟩
def w_r_isNumber : List Cond := .code y_r_isNumber b_r_isNumber 1 (some .boolean) :: gw_tbl
abbrev b_r_isWorking : ByteArray := prog_1_method_6_code
def y_r_isWorking : MethodName := ⟨R_rr, "isWorking", "(I)Z"⟩
def w_r_isWorking : List Cond := .code y_r_isWorking b_r_isWorking 2 (some .boolean) :: gw_tbl
abbrev b_r_readNewest : ByteArray := prog_1_method_19_code
def y_r_readNewest : MethodName := ⟨R_rr, "readNewest", "(II)V"⟩
def w_r_readNewest : List Cond := .code y_r_readNewest b_r_readNewest 6 none :: gw_tbl
abbrev b_r_findKeepers : ByteArray := prog_1_method_11_code
def y_r_findKeepers : MethodName := ⟨R_rr, "findKeepers", "(I)V"⟩
def w_r_findKeepers : List Cond := .code y_r_findKeepers b_r_findKeepers 9 none :: gw_tbl
abbrev b_r_startWork : ByteArray := prog_1_method_17_code
def y_r_startWork : MethodName := ⟨R_rr, "startWork", "()V"⟩
def w_r_startWork : List Cond := .code y_r_startWork b_r_startWork 1 none :: gw_tbl
abbrev b_r_ones : ByteArray := prog_1_method_7_code
def y_r_ones : MethodName := ⟨R_rr, "ones", "(I)I"⟩
def w_r_ones : List Cond := .code y_r_ones b_r_ones 3 (some .int) :: gw_tbl
abbrev b_r_hasAnswered : ByteArray := prog_1_method_18_code
def y_r_hasAnswered : MethodName := ⟨R_rr, "hasAnswered", "(I)Z"⟩
def w_r_hasAnswered : List Cond := .code y_r_hasAnswered b_r_hasAnswered 2 (some .boolean) :: gw_tbl
abbrev b_r_comesThrough : ByteArray := prog_1_method_13_code
def y_r_comesThrough : MethodName := ⟨R_rr, "comesThrough", "(II)Z"⟩
def w_r_comesThrough : List Cond := .code y_r_comesThrough b_r_comesThrough 3 (some .boolean) :: gw_tbl
abbrev b_r_hear : ByteArray := prog_1_method_15_code
def y_r_hear : MethodName := ⟨R_rr, "hear", "(II)V"⟩
def w_r_hear : List Cond := .code y_r_hear b_r_hear 4 none :: gw_tbl
abbrev b_r_store : ByteArray := prog_1_method_14_code
def y_r_store : MethodName := ⟨R_rr, "store", "(II)V"⟩
def w_r_store : List Cond := .code y_r_store b_r_store 4 none :: gw_tbl
abbrev b_r_readNumber : ByteArray := prog_1_method_23_code
def y_r_readNumber : MethodName := ⟨R_rr, "readNumber", "()I"⟩
def w_r_readNumber : List Cond := .code y_r_readNumber b_r_readNumber 1 (some .int) :: gw_tbl
abbrev b_r_change : ByteArray := prog_1_method_22_code
def y_r_change : MethodName := ⟨R_rr, "change", "(IIIZ)V"⟩
def w_r_change : List Cond := .code y_r_change b_r_change 5 none :: gw_tbl
abbrev b_r_writeNewest : ByteArray := prog_1_method_20_code
def y_r_writeNewest : MethodName := ⟨R_rr, "writeNewest", "(III)V"⟩
def w_r_writeNewest : List Cond := .code y_r_writeNewest b_r_writeNewest 7 none :: gw_tbl
abbrev b_r_hint : ByteArray := prog_1_method_21_code
def y_r_hint : MethodName := ⟨R_rr, "hint", "(III)V"⟩
def w_r_hint : List Cond := .code y_r_hint b_r_hint 5 none :: gw_tbl
abbrev b_r_get : ByteArray := prog_1_method_25_code
def y_r_get : MethodName := ⟨R_rr, "get", "(II)I"⟩
def w_r_get : List Cond := .code y_r_get b_r_get 3 (some .int) :: gw_tbl
abbrev b_r_remove : ByteArray := prog_1_method_26_code
def y_r_remove : MethodName := ⟨R_rr, "remove", "(II)I"⟩
def w_r_remove : List Cond := .code y_r_remove b_r_remove 4 (some .int) :: gw_tbl
abbrev b_r_add : ByteArray := prog_1_method_27_code
def y_r_add : MethodName := ⟨R_rr, "add", "(III)I"⟩
def w_r_add : List Cond := .code y_r_add b_r_add 6 (some .int) :: gw_tbl
abbrev b_r_down : ByteArray := prog_1_method_34_code
def y_r_down : MethodName := ⟨R_rr, "down", "(I)Z"⟩
def w_r_down : List Cond := .code y_r_down b_r_down 2 (some .boolean) :: gw_tbl
abbrev b_r_up : ByteArray := prog_1_method_35_code
def y_r_up : MethodName := ⟨R_rr, "up", "(IZ)Z"⟩
def w_r_up : List Cond := .code y_r_up b_r_up 5 (some .boolean) :: gw_tbl
abbrev b_r_erase : ByteArray := prog_1_method_16_code
def y_r_erase : MethodName := ⟨R_rr, "erase", "(II)V"⟩
def w_r_erase : List Cond := .code y_r_erase b_r_erase 4 none :: gw_tbl
abbrev b_r_handOver : ByteArray := prog_1_method_36_code
def y_r_handOver : MethodName := ⟨R_rr, "handOver", "(II)V"⟩
def w_r_handOver : List Cond := .code y_r_handOver b_r_handOver 5 none :: gw_tbl
abbrev b_r_compare : ByteArray := prog_1_method_31_code
def y_r_compare : MethodName := ⟨R_rr, "compare", "(II)V"⟩
def w_r_compare : List Cond := .code y_r_compare b_r_compare 5 none :: gw_tbl
abbrev b_r_growTrees : ByteArray := prog_1_method_30_code
def y_r_growTrees : MethodName := ⟨R_rr, "growTrees", "(II)V"⟩
def w_r_growTrees : List Cond := .code y_r_growTrees b_r_growTrees 4 none :: gw_tbl
abbrev b_r_leaf : ByteArray := prog_1_method_29_code
def y_r_leaf : MethodName := ⟨R_rr, "leaf", "(III)I"⟩
def w_r_leaf : List Cond := .code y_r_leaf b_r_leaf 6 (some .int) :: gw_tbl
abbrev b_r_keeps : ByteArray := prog_1_method_12_code
def y_r_keeps : MethodName := ⟨R_rr, "keeps", "(II)Z"⟩
def w_r_keeps : List Cond := .code y_r_keeps b_r_keeps 3 (some .boolean) :: gw_tbl
abbrev b_r_sumOf : ByteArray := prog_1_method_28_code
def y_r_sumOf : MethodName := ⟨R_rr, "sumOf", "(IIZ)I"⟩
def w_r_sumOf : List Cond := .code y_r_sumOf b_r_sumOf 4 (some .int) :: gw_tbl
abbrev b_r_exchange : ByteArray := prog_1_method_32_code
def y_r_exchange : MethodName := ⟨R_rr, "exchange", "(III)V"⟩
def w_r_exchange : List Cond := .code y_r_exchange b_r_exchange 7 none :: gw_tbl
abbrev b_r_join : ByteArray := prog_1_method_40_code
def y_r_join : MethodName := ⟨R_rr, "join", "(I)I"⟩
def w_r_join : List Cond := .code y_r_join b_r_join 2 (some .int) :: gw_tbl
abbrev b_r_moveTo : ByteArray := prog_1_method_38_code
def y_r_moveTo : MethodName := ⟨R_rr, "moveTo", "(I)V"⟩
def w_r_moveTo : List Cond := .code y_r_moveTo b_r_moveTo 6 none :: gw_tbl
abbrev b_r_leader : ByteArray := prog_1_method_37_code
def y_r_leader : MethodName := ⟨R_rr, "leader", "()I"⟩
def w_r_leader : List Cond := .code y_r_leader b_r_leader 2 (some .int) :: gw_tbl
abbrev b_r_dropOthers : ByteArray := prog_1_method_39_code
def y_r_dropOthers : MethodName := ⟨R_rr, "dropOthers", "()V"⟩
def w_r_dropOthers : List Cond := .code y_r_dropOthers b_r_dropOthers 3 none :: gw_tbl
abbrev b_r_leave : ByteArray := prog_1_method_41_code
def y_r_leave : MethodName := ⟨R_rr, "leave", "(I)I"⟩
def w_r_leave : List Cond := .code y_r_leave b_r_leave 2 (some .int) :: gw_tbl
abbrev b_r_lose : ByteArray := prog_1_method_42_code
def y_r_lose : MethodName := ⟨R_rr, "lose", "(I)Z"⟩
def w_r_lose : List Cond := .code y_r_lose b_r_lose 2 (some .boolean) :: gw_tbl
abbrev b_r_tidy : ByteArray := prog_1_method_44_code
def y_r_tidy : MethodName := ⟨R_rr, "tidy", "()I"⟩
def w_r_tidy : List Cond := .code y_r_tidy b_r_tidy 1 (some .int) :: gw_tbl
abbrev b_r_compareAll : ByteArray := prog_1_method_33_code
def y_r_compareAll : MethodName := ⟨R_rr, "compareAll", "()V"⟩
def w_r_compareAll : List Cond := .code y_r_compareAll b_r_compareAll 3 none :: gw_tbl
abbrev b_r_size : ByteArray := prog_1_method_47_code
def y_r_size : MethodName := ⟨R_rr, "size", "()I"⟩
def w_r_size : List Cond := .code y_r_size b_r_size 3 (some .int) :: gw_tbl
abbrev b_r_numberOf : ByteArray := prog_1_method_43_code
def y_r_numberOf : MethodName := ⟨R_rr, "numberOf", "(I)I"⟩
def w_r_numberOf : List Cond := .code y_r_numberOf b_r_numberOf 3 (some .int) :: gw_tbl
abbrev b_r_members : ByteArray := prog_1_method_45_code
def y_r_members : MethodName := ⟨R_rr, "members", "()I"⟩
def w_r_members : List Cond := .code y_r_members b_r_members 1 (some .int) :: gw_tbl
abbrev b_r_working : ByteArray := prog_1_method_46_code
def y_r_working : MethodName := ⟨R_rr, "working", "()I"⟩
def w_r_working : List Cond := .code y_r_working b_r_working 1 (some .int) :: gw_tbl
abbrev b_r_nextKey : ByteArray := prog_1_method_48_code
def y_r_nextKey : MethodName := ⟨R_rr, "nextKey", "(I)I"⟩
def w_r_nextKey : List Cond := .code y_r_nextKey b_r_nextKey 3 (some .int) :: gw_tbl
abbrev b_r_sum : ByteArray := prog_1_method_49_code
def y_r_sum : MethodName := ⟨R_rr, "sum", "()I"⟩
def w_r_sum : List Cond := .code y_r_sum b_r_sum 4 (some .int) :: gw_tbl
abbrev b_r_changes : ByteArray := prog_1_method_50_code
def y_r_changes : MethodName := ⟨R_rr, "changes", "(I)I"⟩
def w_r_changes : List Cond := .code y_r_changes b_r_changes 3 (some .int) :: gw_tbl
abbrev b_m_init : ByteArray := prog_3_method_1_code
def y_m_init : MethodName := ⟨R_md, "<init>", "()V"⟩
def w_m_init : List Cond := .code y_m_init b_m_init 1 none :: gw_tbl
abbrev b_m_put : ByteArray := prog_3_method_10_code
def y_m_put : MethodName := ⟨R_md, "put", "(III)I"⟩
def w_m_put : List Cond := .code y_m_put b_m_put 6 (some .int) :: gw_tbl
abbrev b_m_hindrance : ByteArray := prog_3_method_8_code
def y_m_hindrance : MethodName := ⟨R_md, "hindrance", "(III)I"⟩
def w_m_hindrance : List Cond := .code y_m_hindrance b_m_hindrance 4 (some .int) :: gw_tbl
abbrev b_m_machine : ByteArray := prog_3_method_2_code
def y_m_machine : MethodName := ⟨R_md, "machine", "(I)Z"⟩
def w_m_machine : List Cond := .code y_m_machine b_m_machine 2 (some .boolean) :: gw_tbl
abbrev b_m_key : ByteArray := prog_3_method_3_code
def y_m_key : MethodName := ⟨R_md, "key", "(I)Z"⟩
def w_m_key : List Cond := .code y_m_key b_m_key 2 (some .boolean) :: gw_tbl
abbrev b_m_fits : ByteArray := prog_3_method_4_code
def y_m_fits : MethodName := ⟨R_md, "fits", "(I)Z"⟩
def w_m_fits : List Cond := .code y_m_fits b_m_fits 2 (some .boolean) :: gw_tbl
abbrev b_m_works : ByteArray := prog_3_method_6_code
def y_m_works : MethodName := ⟨R_md, "works", "(I)Z"⟩
def w_m_works : List Cond := .code y_m_works b_m_works 2 (some .boolean) :: gw_tbl
abbrev b_m_member : ByteArray := prog_3_method_5_code
def y_m_member : MethodName := ⟨R_md, "member", "(I)Z"⟩
def w_m_member : List Cond := .code y_m_member b_m_member 2 (some .boolean) :: gw_tbl
abbrev b_m_found : ByteArray := prog_3_method_7_code
def y_m_found : MethodName := ⟨R_md, "found", "(I)I"⟩
def w_m_found : List Cond := .code y_m_found b_m_found 2 (some .int) :: gw_tbl
abbrev b_m_write : ByteArray := prog_3_method_9_code
def y_m_write : MethodName := ⟨R_md, "write", "(IZI)V"⟩
def w_m_write : List Cond := .code y_m_write b_m_write 4 none :: gw_tbl
abbrev b_m_get : ByteArray := prog_3_method_11_code
def y_m_get : MethodName := ⟨R_md, "get", "(II)I"⟩
def w_m_get : List Cond := .code y_m_get b_m_get 4 (some .int) :: gw_tbl
abbrev b_m_remove : ByteArray := prog_3_method_12_code
def y_m_remove : MethodName := ⟨R_md, "remove", "(II)I"⟩
def w_m_remove : List Cond := .code y_m_remove b_m_remove 5 (some .int) :: gw_tbl
abbrev b_m_add : ByteArray := prog_3_method_13_code
def y_m_add : MethodName := ⟨R_md, "add", "(III)I"⟩
def w_m_add : List Cond := .code y_m_add b_m_add 6 (some .int) :: gw_tbl
abbrev b_m_down : ByteArray := prog_3_method_14_code
def y_m_down : MethodName := ⟨R_md, "down", "(I)Z"⟩
def w_m_down : List Cond := .code y_m_down b_m_down 2 (some .boolean) :: gw_tbl
abbrev b_m_up : ByteArray := prog_3_method_15_code
def y_m_up : MethodName := ⟨R_md, "up", "(IZ)Z"⟩
def w_m_up : List Cond := .code y_m_up b_m_up 3 (some .boolean) :: gw_tbl
abbrev b_m_join : ByteArray := prog_3_method_16_code
def y_m_join : MethodName := ⟨R_md, "join", "(I)I"⟩
def w_m_join : List Cond := .code y_m_join b_m_join 2 (some .int) :: gw_tbl
abbrev b_m_many : ByteArray := prog_3_method_17_code
def y_m_many : MethodName := ⟨R_md, "many", "()I"⟩
def w_m_many : List Cond := .code y_m_many b_m_many 3 (some .int) :: gw_tbl
abbrev b_m_leave : ByteArray := prog_3_method_18_code
def y_m_leave : MethodName := ⟨R_md, "leave", "(I)I"⟩
def w_m_leave : List Cond := .code y_m_leave b_m_leave 2 (some .int) :: gw_tbl
abbrev b_m_lose : ByteArray := prog_3_method_19_code
def y_m_lose : MethodName := ⟨R_md, "lose", "(I)Z"⟩
def w_m_lose : List Cond := .code y_m_lose b_m_lose 2 (some .boolean) :: gw_tbl
abbrev b_m_tidy : ByteArray := prog_3_method_20_code
def y_m_tidy : MethodName := ⟨R_md, "tidy", "()I"⟩
def w_m_tidy : List Cond := .code y_m_tidy b_m_tidy 1 (some .int) :: gw_tbl
abbrev b_m_size : ByteArray := prog_3_method_23_code
def y_m_size : MethodName := ⟨R_md, "size", "()I"⟩
def w_m_size : List Cond := .code y_m_size b_m_size 3 (some .int) :: gw_tbl
abbrev b_m_members : ByteArray := prog_3_method_21_code
def y_m_members : MethodName := ⟨R_md, "members", "()I"⟩
def w_m_members : List Cond := .code y_m_members b_m_members 1 (some .int) :: gw_tbl
abbrev b_m_working : ByteArray := prog_3_method_22_code
def y_m_working : MethodName := ⟨R_md, "working", "()I"⟩
def w_m_working : List Cond := .code y_m_working b_m_working 1 (some .int) :: gw_tbl
abbrev b_m_nextKey : ByteArray := prog_3_method_24_code
def y_m_nextKey : MethodName := ⟨R_md, "nextKey", "(I)I"⟩
def w_m_nextKey : List Cond := .code y_m_nextKey b_m_nextKey 3 (some .int) :: gw_tbl
abbrev b_m_sum : ByteArray := prog_3_method_25_code
def y_m_sum : MethodName := ⟨R_md, "sum", "()I"⟩
def w_m_sum : List Cond := .code y_m_sum b_m_sum 3 (some .int) :: gw_tbl
abbrev b_m_changes : ByteArray := prog_3_method_26_code
def y_m_changes : MethodName := ⟨R_md, "changes", "(I)I"⟩
def w_m_changes : List Cond := .code y_m_changes b_m_changes 2 (some .int) :: gw_tbl
theorem lw_good : ∀ w ∈ gw_tbl, (w.onTables && w.keeps) = true ∨ ∃ ty, w = .arrayClass ty := fun w hw => good_of_word (List.mem_filter.mp hw).2
theorem q_rr_f0 : Cond.fieldLink R_rr 7 "ReplicaRing" "memberSet" "I" ∈ gw_tbl := List.mem_filter.mpr ⟨List.mem_of_getElem? (i := 66) rfl, rfl⟩
theorem q_rr_f1 : Cond.fieldLink R_rr 13 "ReplicaRing" "workingSet" "I" ∈ gw_tbl := List.mem_filter.mpr ⟨List.mem_of_getElem? (i := 67) rfl, rfl⟩
theorem q_rr_f2 : Cond.fieldLink R_rr 63 "ReplicaRing" "ringSize" "I" ∈ gw_tbl := List.mem_filter.mpr ⟨List.mem_of_getElem? (i := 68) rfl, rfl⟩
theorem q_rr_f3 : Cond.fieldLink R_rr 16 "ReplicaRing" "ringPoint" "[I" ∈ gw_tbl := List.mem_filter.mpr ⟨List.mem_of_getElem? (i := 69) rfl, rfl⟩
theorem q_rr_f4 : Cond.fieldLink R_rr 20 "ReplicaRing" "ringOwner" "[B" ∈ gw_tbl := List.mem_filter.mpr ⟨List.mem_of_getElem? (i := 70) rfl, rfl⟩
theorem q_rr_f5 : Cond.fieldLink R_rr 24 "ReplicaRing" "stamps" "[I" ∈ gw_tbl := List.mem_filter.mpr ⟨List.mem_of_getElem? (i := 71) rfl, rfl⟩
theorem q_rr_f6 : Cond.fieldLink R_rr 27 "ReplicaRing" "values" "[I" ∈ gw_tbl := List.mem_filter.mpr ⟨List.mem_of_getElem? (i := 72) rfl, rfl⟩
theorem q_rr_f7 : Cond.fieldLink R_rr 30 "ReplicaRing" "taken" "[Z" ∈ gw_tbl := List.mem_filter.mpr ⟨List.mem_of_getElem? (i := 73) rfl, rfl⟩
theorem q_rr_f8 : Cond.fieldLink R_rr 34 "ReplicaRing" "hintStamps" "[I" ∈ gw_tbl := List.mem_filter.mpr ⟨List.mem_of_getElem? (i := 74) rfl, rfl⟩
theorem q_rr_f9 : Cond.fieldLink R_rr 37 "ReplicaRing" "hintValues" "[I" ∈ gw_tbl := List.mem_filter.mpr ⟨List.mem_of_getElem? (i := 75) rfl, rfl⟩
theorem q_rr_f10 : Cond.fieldLink R_rr 40 "ReplicaRing" "hintTaken" "[Z" ∈ gw_tbl := List.mem_filter.mpr ⟨List.mem_of_getElem? (i := 76) rfl, rfl⟩
theorem q_rr_f11 : Cond.fieldLink R_rr 43 "ReplicaRing" "keeper" "[B" ∈ gw_tbl := List.mem_filter.mpr ⟨List.mem_of_getElem? (i := 77) rfl, rfl⟩
theorem q_rr_f12 : Cond.fieldLink R_rr 97 "ReplicaRing" "answered" "I" ∈ gw_tbl := List.mem_filter.mpr ⟨List.mem_of_getElem? (i := 78) rfl, rfl⟩
theorem q_rr_f13 : Cond.fieldLink R_rr 87 "ReplicaRing" "newStamp" "I" ∈ gw_tbl := List.mem_filter.mpr ⟨List.mem_of_getElem? (i := 79) rfl, rfl⟩
theorem q_rr_f14 : Cond.fieldLink R_rr 90 "ReplicaRing" "newValue" "I" ∈ gw_tbl := List.mem_filter.mpr ⟨List.mem_of_getElem? (i := 80) rfl, rfl⟩
theorem q_rr_f15 : Cond.fieldLink R_rr 93 "ReplicaRing" "newTaken" "Z" ∈ gw_tbl := List.mem_filter.mpr ⟨List.mem_of_getElem? (i := 81) rfl, rfl⟩
theorem q_rr_f16 : Cond.fieldLink R_rr 46 "ReplicaRing" "treeOne" "[I" ∈ gw_tbl := List.mem_filter.mpr ⟨List.mem_of_getElem? (i := 82) rfl, rfl⟩
theorem q_rr_f17 : Cond.fieldLink R_rr 49 "ReplicaRing" "treeOther" "[I" ∈ gw_tbl := List.mem_filter.mpr ⟨List.mem_of_getElem? (i := 83) rfl, rfl⟩
theorem q_rr_f18 : Cond.fieldLink R_rr 52 "ReplicaRing" "treeDiffers" "[Z" ∈ gw_tbl := List.mem_filter.mpr ⟨List.mem_of_getElem? (i := 84) rfl, rfl⟩
theorem q_rr_f19 : Cond.fieldLink R_rr 81 "ReplicaRing" "messages" "I" ∈ gw_tbl := List.mem_filter.mpr ⟨List.mem_of_getElem? (i := 85) rfl, rfl⟩
theorem q_rr_f20 : Cond.fieldLink R_rr 84 "ReplicaRing" "loseLeft" "I" ∈ gw_tbl := List.mem_filter.mpr ⟨List.mem_of_getElem? (i := 86) rfl, rfl⟩
theorem q_md_f0 : Cond.fieldLink R_md 7 "ReplicaRingModel" "numbers" "[I" ∈ gw_tbl := List.mem_filter.mpr ⟨List.mem_of_getElem? (i := 316) rfl, rfl⟩
theorem q_md_f1 : Cond.fieldLink R_md 13 "ReplicaRingModel" "there" "[Z" ∈ gw_tbl := List.mem_filter.mpr ⟨List.mem_of_getElem? (i := 317) rfl, rfl⟩
theorem q_md_f2 : Cond.fieldLink R_md 17 "ReplicaRingModel" "counts" "[I" ∈ gw_tbl := List.mem_filter.mpr ⟨List.mem_of_getElem? (i := 318) rfl, rfl⟩
theorem q_md_f3 : Cond.fieldLink R_md 20 "ReplicaRingModel" "ring" "I" ∈ gw_tbl := List.mem_filter.mpr ⟨List.mem_of_getElem? (i := 319) rfl, rfl⟩
theorem q_md_f4 : Cond.fieldLink R_md 24 "ReplicaRingModel" "idle" "I" ∈ gw_tbl := List.mem_filter.mpr ⟨List.mem_of_getElem? (i := 320) rfl, rfl⟩
theorem q_code_r_init : Cond.code y_r_init b_r_init 1 none ∈ gw_tbl := List.mem_filter.mpr ⟨List.mem_of_getElem? (i := 43) rfl, rfl⟩
theorem q_inst_r_init : Cond.instanceMethod y_r_init ∈ gw_tbl := List.mem_filter.mpr ⟨List.mem_of_getElem? (i := 42) rfl, rfl⟩
theorem q_code_r_layRing : Cond.code y_r_layRing b_r_layRing 4 none ∈ gw_tbl := List.mem_filter.mpr ⟨List.mem_of_getElem? (i := 50) rfl, rfl⟩
theorem q_inst_r_layRing : Cond.instanceMethod y_r_layRing ∈ gw_tbl := List.mem_filter.mpr ⟨List.mem_of_getElem? (i := 49) rfl, rfl⟩
theorem q_sel_r_layRing : Cond.selects y_r_layRing.cls y_r_layRing y_r_layRing ∈ gw_tbl := List.mem_filter.mpr ⟨List.mem_of_getElem? (i := 0) rfl, rfl⟩
theorem q_code_r_isMember : Cond.code y_r_isMember b_r_isMember 2 (some .boolean) ∈ gw_tbl := List.mem_filter.mpr ⟨List.mem_of_getElem? (i := 54) rfl, rfl⟩
theorem q_inst_r_isMember : Cond.instanceMethod y_r_isMember ∈ gw_tbl := List.mem_filter.mpr ⟨List.mem_of_getElem? (i := 53) rfl, rfl⟩
theorem q_sel_r_isMember : Cond.selects y_r_isMember.cls y_r_isMember y_r_isMember ∈ gw_tbl := List.mem_filter.mpr ⟨List.mem_of_getElem? (i := 1) rfl, rfl⟩
theorem q_code_r_isMachine : Cond.code y_r_isMachine b_r_isMachine 1 (some .boolean) ∈ gw_tbl := List.mem_filter.mpr ⟨List.mem_of_getElem? (i := 57) rfl, rfl⟩
theorem q_stat_r_isMachine : Cond.static y_r_isMachine ∈ gw_tbl := List.mem_filter.mpr ⟨List.mem_of_getElem? (i := 56) rfl, rfl⟩
theorem q_code_r_mixed : Cond.code y_r_mixed b_r_mixed 2 (some .int) ∈ gw_tbl := List.mem_filter.mpr ⟨List.mem_of_getElem? (i := 60) rfl, rfl⟩
theorem q_stat_r_mixed : Cond.static y_r_mixed ∈ gw_tbl := List.mem_filter.mpr ⟨List.mem_of_getElem? (i := 59) rfl, rfl⟩
theorem q_code_r_enterRing : Cond.code y_r_enterRing b_r_enterRing 4 none ∈ gw_tbl := List.mem_filter.mpr ⟨List.mem_of_getElem? (i := 65) rfl, rfl⟩
theorem q_inst_r_enterRing : Cond.instanceMethod y_r_enterRing ∈ gw_tbl := List.mem_filter.mpr ⟨List.mem_of_getElem? (i := 64) rfl, rfl⟩
theorem q_sel_r_enterRing : Cond.selects y_r_enterRing.cls y_r_enterRing y_r_enterRing ∈ gw_tbl := List.mem_filter.mpr ⟨List.mem_of_getElem? (i := 2) rfl, rfl⟩
theorem q_code_r_put : Cond.code y_r_put b_r_put 5 (some .int) ∈ gw_tbl := List.mem_filter.mpr ⟨List.mem_of_getElem? (i := 136) rfl, rfl⟩
theorem q_inst_r_put : Cond.instanceMethod y_r_put ∈ gw_tbl := List.mem_filter.mpr ⟨List.mem_of_getElem? (i := 134) rfl, rfl⟩
theorem q_sel_r_put : Cond.selects y_r_put.cls y_r_put y_r_put ∈ gw_tbl := List.mem_filter.mpr ⟨List.mem_of_getElem? (i := 135) rfl, rfl⟩
theorem q_code_r_isKey : Cond.code y_r_isKey b_r_isKey 1 (some .boolean) ∈ gw_tbl := List.mem_filter.mpr ⟨List.mem_of_getElem? (i := 139) rfl, rfl⟩
theorem q_stat_r_isKey : Cond.static y_r_isKey ∈ gw_tbl := List.mem_filter.mpr ⟨List.mem_of_getElem? (i := 138) rfl, rfl⟩
theorem q_code_r_isNumber : Cond.code y_r_isNumber b_r_isNumber 1 (some .boolean) ∈ gw_tbl := List.mem_filter.mpr ⟨List.mem_of_getElem? (i := 142) rfl, rfl⟩
theorem q_stat_r_isNumber : Cond.static y_r_isNumber ∈ gw_tbl := List.mem_filter.mpr ⟨List.mem_of_getElem? (i := 141) rfl, rfl⟩
theorem q_code_r_isWorking : Cond.code y_r_isWorking b_r_isWorking 2 (some .boolean) ∈ gw_tbl := List.mem_filter.mpr ⟨List.mem_of_getElem? (i := 147) rfl, rfl⟩
theorem q_inst_r_isWorking : Cond.instanceMethod y_r_isWorking ∈ gw_tbl := List.mem_filter.mpr ⟨List.mem_of_getElem? (i := 146) rfl, rfl⟩
theorem q_sel_r_isWorking : Cond.selects y_r_isWorking.cls y_r_isWorking y_r_isWorking ∈ gw_tbl := List.mem_filter.mpr ⟨List.mem_of_getElem? (i := 3) rfl, rfl⟩
theorem q_code_r_readNewest : Cond.code y_r_readNewest b_r_readNewest 6 none ∈ gw_tbl := List.mem_filter.mpr ⟨List.mem_of_getElem? (i := 152) rfl, rfl⟩
theorem q_inst_r_readNewest : Cond.instanceMethod y_r_readNewest ∈ gw_tbl := List.mem_filter.mpr ⟨List.mem_of_getElem? (i := 151) rfl, rfl⟩
theorem q_sel_r_readNewest : Cond.selects y_r_readNewest.cls y_r_readNewest y_r_readNewest ∈ gw_tbl := List.mem_filter.mpr ⟨List.mem_of_getElem? (i := 4) rfl, rfl⟩
theorem q_code_r_findKeepers : Cond.code y_r_findKeepers b_r_findKeepers 9 none ∈ gw_tbl := List.mem_filter.mpr ⟨List.mem_of_getElem? (i := 156) rfl, rfl⟩
theorem q_inst_r_findKeepers : Cond.instanceMethod y_r_findKeepers ∈ gw_tbl := List.mem_filter.mpr ⟨List.mem_of_getElem? (i := 155) rfl, rfl⟩
theorem q_sel_r_findKeepers : Cond.selects y_r_findKeepers.cls y_r_findKeepers y_r_findKeepers ∈ gw_tbl := List.mem_filter.mpr ⟨List.mem_of_getElem? (i := 5) rfl, rfl⟩
theorem q_code_r_startWork : Cond.code y_r_startWork b_r_startWork 1 none ∈ gw_tbl := List.mem_filter.mpr ⟨List.mem_of_getElem? (i := 160) rfl, rfl⟩
theorem q_inst_r_startWork : Cond.instanceMethod y_r_startWork ∈ gw_tbl := List.mem_filter.mpr ⟨List.mem_of_getElem? (i := 159) rfl, rfl⟩
theorem q_sel_r_startWork : Cond.selects y_r_startWork.cls y_r_startWork y_r_startWork ∈ gw_tbl := List.mem_filter.mpr ⟨List.mem_of_getElem? (i := 6) rfl, rfl⟩
theorem q_code_r_ones : Cond.code y_r_ones b_r_ones 3 (some .int) ∈ gw_tbl := List.mem_filter.mpr ⟨List.mem_of_getElem? (i := 163) rfl, rfl⟩
theorem q_stat_r_ones : Cond.static y_r_ones ∈ gw_tbl := List.mem_filter.mpr ⟨List.mem_of_getElem? (i := 162) rfl, rfl⟩
theorem q_code_r_hasAnswered : Cond.code y_r_hasAnswered b_r_hasAnswered 2 (some .boolean) ∈ gw_tbl := List.mem_filter.mpr ⟨List.mem_of_getElem? (i := 167) rfl, rfl⟩
theorem q_inst_r_hasAnswered : Cond.instanceMethod y_r_hasAnswered ∈ gw_tbl := List.mem_filter.mpr ⟨List.mem_of_getElem? (i := 166) rfl, rfl⟩
theorem q_sel_r_hasAnswered : Cond.selects y_r_hasAnswered.cls y_r_hasAnswered y_r_hasAnswered ∈ gw_tbl := List.mem_filter.mpr ⟨List.mem_of_getElem? (i := 7) rfl, rfl⟩
theorem q_code_r_comesThrough : Cond.code y_r_comesThrough b_r_comesThrough 3 (some .boolean) ∈ gw_tbl := List.mem_filter.mpr ⟨List.mem_of_getElem? (i := 171) rfl, rfl⟩
theorem q_inst_r_comesThrough : Cond.instanceMethod y_r_comesThrough ∈ gw_tbl := List.mem_filter.mpr ⟨List.mem_of_getElem? (i := 170) rfl, rfl⟩
theorem q_sel_r_comesThrough : Cond.selects y_r_comesThrough.cls y_r_comesThrough y_r_comesThrough ∈ gw_tbl := List.mem_filter.mpr ⟨List.mem_of_getElem? (i := 8) rfl, rfl⟩
theorem q_code_r_hear : Cond.code y_r_hear b_r_hear 4 none ∈ gw_tbl := List.mem_filter.mpr ⟨List.mem_of_getElem? (i := 175) rfl, rfl⟩
theorem q_inst_r_hear : Cond.instanceMethod y_r_hear ∈ gw_tbl := List.mem_filter.mpr ⟨List.mem_of_getElem? (i := 174) rfl, rfl⟩
theorem q_sel_r_hear : Cond.selects y_r_hear.cls y_r_hear y_r_hear ∈ gw_tbl := List.mem_filter.mpr ⟨List.mem_of_getElem? (i := 9) rfl, rfl⟩
theorem q_code_r_store : Cond.code y_r_store b_r_store 4 none ∈ gw_tbl := List.mem_filter.mpr ⟨List.mem_of_getElem? (i := 179) rfl, rfl⟩
theorem q_inst_r_store : Cond.instanceMethod y_r_store ∈ gw_tbl := List.mem_filter.mpr ⟨List.mem_of_getElem? (i := 178) rfl, rfl⟩
theorem q_sel_r_store : Cond.selects y_r_store.cls y_r_store y_r_store ∈ gw_tbl := List.mem_filter.mpr ⟨List.mem_of_getElem? (i := 10) rfl, rfl⟩
theorem q_code_r_readNumber : Cond.code y_r_readNumber b_r_readNumber 1 (some .int) ∈ gw_tbl := List.mem_filter.mpr ⟨List.mem_of_getElem? (i := 183) rfl, rfl⟩
theorem q_inst_r_readNumber : Cond.instanceMethod y_r_readNumber ∈ gw_tbl := List.mem_filter.mpr ⟨List.mem_of_getElem? (i := 182) rfl, rfl⟩
theorem q_sel_r_readNumber : Cond.selects y_r_readNumber.cls y_r_readNumber y_r_readNumber ∈ gw_tbl := List.mem_filter.mpr ⟨List.mem_of_getElem? (i := 11) rfl, rfl⟩
theorem q_code_r_change : Cond.code y_r_change b_r_change 5 none ∈ gw_tbl := List.mem_filter.mpr ⟨List.mem_of_getElem? (i := 188) rfl, rfl⟩
theorem q_inst_r_change : Cond.instanceMethod y_r_change ∈ gw_tbl := List.mem_filter.mpr ⟨List.mem_of_getElem? (i := 187) rfl, rfl⟩
theorem q_sel_r_change : Cond.selects y_r_change.cls y_r_change y_r_change ∈ gw_tbl := List.mem_filter.mpr ⟨List.mem_of_getElem? (i := 12) rfl, rfl⟩
theorem q_code_r_writeNewest : Cond.code y_r_writeNewest b_r_writeNewest 7 none ∈ gw_tbl := List.mem_filter.mpr ⟨List.mem_of_getElem? (i := 192) rfl, rfl⟩
theorem q_inst_r_writeNewest : Cond.instanceMethod y_r_writeNewest ∈ gw_tbl := List.mem_filter.mpr ⟨List.mem_of_getElem? (i := 191) rfl, rfl⟩
theorem q_sel_r_writeNewest : Cond.selects y_r_writeNewest.cls y_r_writeNewest y_r_writeNewest ∈ gw_tbl := List.mem_filter.mpr ⟨List.mem_of_getElem? (i := 13) rfl, rfl⟩
theorem q_code_r_hint : Cond.code y_r_hint b_r_hint 5 none ∈ gw_tbl := List.mem_filter.mpr ⟨List.mem_of_getElem? (i := 196) rfl, rfl⟩
theorem q_inst_r_hint : Cond.instanceMethod y_r_hint ∈ gw_tbl := List.mem_filter.mpr ⟨List.mem_of_getElem? (i := 195) rfl, rfl⟩
theorem q_sel_r_hint : Cond.selects y_r_hint.cls y_r_hint y_r_hint ∈ gw_tbl := List.mem_filter.mpr ⟨List.mem_of_getElem? (i := 14) rfl, rfl⟩
theorem q_code_r_get : Cond.code y_r_get b_r_get 3 (some .int) ∈ gw_tbl := List.mem_filter.mpr ⟨List.mem_of_getElem? (i := 200) rfl, rfl⟩
theorem q_inst_r_get : Cond.instanceMethod y_r_get ∈ gw_tbl := List.mem_filter.mpr ⟨List.mem_of_getElem? (i := 198) rfl, rfl⟩
theorem q_sel_r_get : Cond.selects y_r_get.cls y_r_get y_r_get ∈ gw_tbl := List.mem_filter.mpr ⟨List.mem_of_getElem? (i := 199) rfl, rfl⟩
theorem q_code_r_remove : Cond.code y_r_remove b_r_remove 4 (some .int) ∈ gw_tbl := List.mem_filter.mpr ⟨List.mem_of_getElem? (i := 204) rfl, rfl⟩
theorem q_inst_r_remove : Cond.instanceMethod y_r_remove ∈ gw_tbl := List.mem_filter.mpr ⟨List.mem_of_getElem? (i := 202) rfl, rfl⟩
theorem q_sel_r_remove : Cond.selects y_r_remove.cls y_r_remove y_r_remove ∈ gw_tbl := List.mem_filter.mpr ⟨List.mem_of_getElem? (i := 203) rfl, rfl⟩
theorem q_code_r_add : Cond.code y_r_add b_r_add 6 (some .int) ∈ gw_tbl := List.mem_filter.mpr ⟨List.mem_of_getElem? (i := 208) rfl, rfl⟩
theorem q_inst_r_add : Cond.instanceMethod y_r_add ∈ gw_tbl := List.mem_filter.mpr ⟨List.mem_of_getElem? (i := 206) rfl, rfl⟩
theorem q_sel_r_add : Cond.selects y_r_add.cls y_r_add y_r_add ∈ gw_tbl := List.mem_filter.mpr ⟨List.mem_of_getElem? (i := 207) rfl, rfl⟩
theorem q_code_r_down : Cond.code y_r_down b_r_down 2 (some .boolean) ∈ gw_tbl := List.mem_filter.mpr ⟨List.mem_of_getElem? (i := 212) rfl, rfl⟩
theorem q_inst_r_down : Cond.instanceMethod y_r_down ∈ gw_tbl := List.mem_filter.mpr ⟨List.mem_of_getElem? (i := 210) rfl, rfl⟩
theorem q_sel_r_down : Cond.selects y_r_down.cls y_r_down y_r_down ∈ gw_tbl := List.mem_filter.mpr ⟨List.mem_of_getElem? (i := 211) rfl, rfl⟩
theorem q_code_r_up : Cond.code y_r_up b_r_up 5 (some .boolean) ∈ gw_tbl := List.mem_filter.mpr ⟨List.mem_of_getElem? (i := 216) rfl, rfl⟩
theorem q_inst_r_up : Cond.instanceMethod y_r_up ∈ gw_tbl := List.mem_filter.mpr ⟨List.mem_of_getElem? (i := 214) rfl, rfl⟩
theorem q_sel_r_up : Cond.selects y_r_up.cls y_r_up y_r_up ∈ gw_tbl := List.mem_filter.mpr ⟨List.mem_of_getElem? (i := 215) rfl, rfl⟩
theorem q_code_r_erase : Cond.code y_r_erase b_r_erase 4 none ∈ gw_tbl := List.mem_filter.mpr ⟨List.mem_of_getElem? (i := 220) rfl, rfl⟩
theorem q_inst_r_erase : Cond.instanceMethod y_r_erase ∈ gw_tbl := List.mem_filter.mpr ⟨List.mem_of_getElem? (i := 219) rfl, rfl⟩
theorem q_sel_r_erase : Cond.selects y_r_erase.cls y_r_erase y_r_erase ∈ gw_tbl := List.mem_filter.mpr ⟨List.mem_of_getElem? (i := 15) rfl, rfl⟩
theorem q_code_r_handOver : Cond.code y_r_handOver b_r_handOver 5 none ∈ gw_tbl := List.mem_filter.mpr ⟨List.mem_of_getElem? (i := 224) rfl, rfl⟩
theorem q_inst_r_handOver : Cond.instanceMethod y_r_handOver ∈ gw_tbl := List.mem_filter.mpr ⟨List.mem_of_getElem? (i := 223) rfl, rfl⟩
theorem q_sel_r_handOver : Cond.selects y_r_handOver.cls y_r_handOver y_r_handOver ∈ gw_tbl := List.mem_filter.mpr ⟨List.mem_of_getElem? (i := 16) rfl, rfl⟩
theorem q_code_r_compare : Cond.code y_r_compare b_r_compare 5 none ∈ gw_tbl := List.mem_filter.mpr ⟨List.mem_of_getElem? (i := 228) rfl, rfl⟩
theorem q_inst_r_compare : Cond.instanceMethod y_r_compare ∈ gw_tbl := List.mem_filter.mpr ⟨List.mem_of_getElem? (i := 227) rfl, rfl⟩
theorem q_sel_r_compare : Cond.selects y_r_compare.cls y_r_compare y_r_compare ∈ gw_tbl := List.mem_filter.mpr ⟨List.mem_of_getElem? (i := 17) rfl, rfl⟩
theorem q_code_r_growTrees : Cond.code y_r_growTrees b_r_growTrees 4 none ∈ gw_tbl := List.mem_filter.mpr ⟨List.mem_of_getElem? (i := 232) rfl, rfl⟩
theorem q_inst_r_growTrees : Cond.instanceMethod y_r_growTrees ∈ gw_tbl := List.mem_filter.mpr ⟨List.mem_of_getElem? (i := 231) rfl, rfl⟩
theorem q_sel_r_growTrees : Cond.selects y_r_growTrees.cls y_r_growTrees y_r_growTrees ∈ gw_tbl := List.mem_filter.mpr ⟨List.mem_of_getElem? (i := 18) rfl, rfl⟩
theorem q_code_r_leaf : Cond.code y_r_leaf b_r_leaf 6 (some .int) ∈ gw_tbl := List.mem_filter.mpr ⟨List.mem_of_getElem? (i := 236) rfl, rfl⟩
theorem q_inst_r_leaf : Cond.instanceMethod y_r_leaf ∈ gw_tbl := List.mem_filter.mpr ⟨List.mem_of_getElem? (i := 235) rfl, rfl⟩
theorem q_sel_r_leaf : Cond.selects y_r_leaf.cls y_r_leaf y_r_leaf ∈ gw_tbl := List.mem_filter.mpr ⟨List.mem_of_getElem? (i := 19) rfl, rfl⟩
theorem q_code_r_keeps : Cond.code y_r_keeps b_r_keeps 3 (some .boolean) ∈ gw_tbl := List.mem_filter.mpr ⟨List.mem_of_getElem? (i := 240) rfl, rfl⟩
theorem q_inst_r_keeps : Cond.instanceMethod y_r_keeps ∈ gw_tbl := List.mem_filter.mpr ⟨List.mem_of_getElem? (i := 239) rfl, rfl⟩
theorem q_sel_r_keeps : Cond.selects y_r_keeps.cls y_r_keeps y_r_keeps ∈ gw_tbl := List.mem_filter.mpr ⟨List.mem_of_getElem? (i := 20) rfl, rfl⟩
theorem q_code_r_sumOf : Cond.code y_r_sumOf b_r_sumOf 4 (some .int) ∈ gw_tbl := List.mem_filter.mpr ⟨List.mem_of_getElem? (i := 243) rfl, rfl⟩
theorem q_stat_r_sumOf : Cond.static y_r_sumOf ∈ gw_tbl := List.mem_filter.mpr ⟨List.mem_of_getElem? (i := 242) rfl, rfl⟩
theorem q_code_r_exchange : Cond.code y_r_exchange b_r_exchange 7 none ∈ gw_tbl := List.mem_filter.mpr ⟨List.mem_of_getElem? (i := 248) rfl, rfl⟩
theorem q_inst_r_exchange : Cond.instanceMethod y_r_exchange ∈ gw_tbl := List.mem_filter.mpr ⟨List.mem_of_getElem? (i := 247) rfl, rfl⟩
theorem q_sel_r_exchange : Cond.selects y_r_exchange.cls y_r_exchange y_r_exchange ∈ gw_tbl := List.mem_filter.mpr ⟨List.mem_of_getElem? (i := 21) rfl, rfl⟩
theorem q_code_r_join : Cond.code y_r_join b_r_join 2 (some .int) ∈ gw_tbl := List.mem_filter.mpr ⟨List.mem_of_getElem? (i := 252) rfl, rfl⟩
theorem q_inst_r_join : Cond.instanceMethod y_r_join ∈ gw_tbl := List.mem_filter.mpr ⟨List.mem_of_getElem? (i := 250) rfl, rfl⟩
theorem q_sel_r_join : Cond.selects y_r_join.cls y_r_join y_r_join ∈ gw_tbl := List.mem_filter.mpr ⟨List.mem_of_getElem? (i := 251) rfl, rfl⟩
theorem q_code_r_moveTo : Cond.code y_r_moveTo b_r_moveTo 6 none ∈ gw_tbl := List.mem_filter.mpr ⟨List.mem_of_getElem? (i := 256) rfl, rfl⟩
theorem q_inst_r_moveTo : Cond.instanceMethod y_r_moveTo ∈ gw_tbl := List.mem_filter.mpr ⟨List.mem_of_getElem? (i := 255) rfl, rfl⟩
theorem q_sel_r_moveTo : Cond.selects y_r_moveTo.cls y_r_moveTo y_r_moveTo ∈ gw_tbl := List.mem_filter.mpr ⟨List.mem_of_getElem? (i := 22) rfl, rfl⟩
theorem q_code_r_leader : Cond.code y_r_leader b_r_leader 2 (some .int) ∈ gw_tbl := List.mem_filter.mpr ⟨List.mem_of_getElem? (i := 260) rfl, rfl⟩
theorem q_inst_r_leader : Cond.instanceMethod y_r_leader ∈ gw_tbl := List.mem_filter.mpr ⟨List.mem_of_getElem? (i := 259) rfl, rfl⟩
theorem q_sel_r_leader : Cond.selects y_r_leader.cls y_r_leader y_r_leader ∈ gw_tbl := List.mem_filter.mpr ⟨List.mem_of_getElem? (i := 23) rfl, rfl⟩
theorem q_code_r_dropOthers : Cond.code y_r_dropOthers b_r_dropOthers 3 none ∈ gw_tbl := List.mem_filter.mpr ⟨List.mem_of_getElem? (i := 264) rfl, rfl⟩
theorem q_inst_r_dropOthers : Cond.instanceMethod y_r_dropOthers ∈ gw_tbl := List.mem_filter.mpr ⟨List.mem_of_getElem? (i := 263) rfl, rfl⟩
theorem q_sel_r_dropOthers : Cond.selects y_r_dropOthers.cls y_r_dropOthers y_r_dropOthers ∈ gw_tbl := List.mem_filter.mpr ⟨List.mem_of_getElem? (i := 24) rfl, rfl⟩
theorem q_code_r_leave : Cond.code y_r_leave b_r_leave 2 (some .int) ∈ gw_tbl := List.mem_filter.mpr ⟨List.mem_of_getElem? (i := 268) rfl, rfl⟩
theorem q_inst_r_leave : Cond.instanceMethod y_r_leave ∈ gw_tbl := List.mem_filter.mpr ⟨List.mem_of_getElem? (i := 266) rfl, rfl⟩
theorem q_sel_r_leave : Cond.selects y_r_leave.cls y_r_leave y_r_leave ∈ gw_tbl := List.mem_filter.mpr ⟨List.mem_of_getElem? (i := 267) rfl, rfl⟩
theorem q_code_r_lose : Cond.code y_r_lose b_r_lose 2 (some .boolean) ∈ gw_tbl := List.mem_filter.mpr ⟨List.mem_of_getElem? (i := 272) rfl, rfl⟩
theorem q_inst_r_lose : Cond.instanceMethod y_r_lose ∈ gw_tbl := List.mem_filter.mpr ⟨List.mem_of_getElem? (i := 270) rfl, rfl⟩
theorem q_sel_r_lose : Cond.selects y_r_lose.cls y_r_lose y_r_lose ∈ gw_tbl := List.mem_filter.mpr ⟨List.mem_of_getElem? (i := 271) rfl, rfl⟩
theorem q_code_r_tidy : Cond.code y_r_tidy b_r_tidy 1 (some .int) ∈ gw_tbl := List.mem_filter.mpr ⟨List.mem_of_getElem? (i := 276) rfl, rfl⟩
theorem q_inst_r_tidy : Cond.instanceMethod y_r_tidy ∈ gw_tbl := List.mem_filter.mpr ⟨List.mem_of_getElem? (i := 274) rfl, rfl⟩
theorem q_sel_r_tidy : Cond.selects y_r_tidy.cls y_r_tidy y_r_tidy ∈ gw_tbl := List.mem_filter.mpr ⟨List.mem_of_getElem? (i := 275) rfl, rfl⟩
theorem q_code_r_compareAll : Cond.code y_r_compareAll b_r_compareAll 3 none ∈ gw_tbl := List.mem_filter.mpr ⟨List.mem_of_getElem? (i := 280) rfl, rfl⟩
theorem q_inst_r_compareAll : Cond.instanceMethod y_r_compareAll ∈ gw_tbl := List.mem_filter.mpr ⟨List.mem_of_getElem? (i := 279) rfl, rfl⟩
theorem q_sel_r_compareAll : Cond.selects y_r_compareAll.cls y_r_compareAll y_r_compareAll ∈ gw_tbl := List.mem_filter.mpr ⟨List.mem_of_getElem? (i := 25) rfl, rfl⟩
theorem q_code_r_size : Cond.code y_r_size b_r_size 3 (some .int) ∈ gw_tbl := List.mem_filter.mpr ⟨List.mem_of_getElem? (i := 284) rfl, rfl⟩
theorem q_inst_r_size : Cond.instanceMethod y_r_size ∈ gw_tbl := List.mem_filter.mpr ⟨List.mem_of_getElem? (i := 282) rfl, rfl⟩
theorem q_sel_r_size : Cond.selects y_r_size.cls y_r_size y_r_size ∈ gw_tbl := List.mem_filter.mpr ⟨List.mem_of_getElem? (i := 283) rfl, rfl⟩
theorem q_code_r_numberOf : Cond.code y_r_numberOf b_r_numberOf 3 (some .int) ∈ gw_tbl := List.mem_filter.mpr ⟨List.mem_of_getElem? (i := 288) rfl, rfl⟩
theorem q_inst_r_numberOf : Cond.instanceMethod y_r_numberOf ∈ gw_tbl := List.mem_filter.mpr ⟨List.mem_of_getElem? (i := 287) rfl, rfl⟩
theorem q_sel_r_numberOf : Cond.selects y_r_numberOf.cls y_r_numberOf y_r_numberOf ∈ gw_tbl := List.mem_filter.mpr ⟨List.mem_of_getElem? (i := 26) rfl, rfl⟩
theorem q_code_r_members : Cond.code y_r_members b_r_members 1 (some .int) ∈ gw_tbl := List.mem_filter.mpr ⟨List.mem_of_getElem? (i := 292) rfl, rfl⟩
theorem q_inst_r_members : Cond.instanceMethod y_r_members ∈ gw_tbl := List.mem_filter.mpr ⟨List.mem_of_getElem? (i := 290) rfl, rfl⟩
theorem q_sel_r_members : Cond.selects y_r_members.cls y_r_members y_r_members ∈ gw_tbl := List.mem_filter.mpr ⟨List.mem_of_getElem? (i := 291) rfl, rfl⟩
theorem q_code_r_working : Cond.code y_r_working b_r_working 1 (some .int) ∈ gw_tbl := List.mem_filter.mpr ⟨List.mem_of_getElem? (i := 296) rfl, rfl⟩
theorem q_inst_r_working : Cond.instanceMethod y_r_working ∈ gw_tbl := List.mem_filter.mpr ⟨List.mem_of_getElem? (i := 294) rfl, rfl⟩
theorem q_sel_r_working : Cond.selects y_r_working.cls y_r_working y_r_working ∈ gw_tbl := List.mem_filter.mpr ⟨List.mem_of_getElem? (i := 295) rfl, rfl⟩
theorem q_code_r_nextKey : Cond.code y_r_nextKey b_r_nextKey 3 (some .int) ∈ gw_tbl := List.mem_filter.mpr ⟨List.mem_of_getElem? (i := 301) rfl, rfl⟩
theorem q_inst_r_nextKey : Cond.instanceMethod y_r_nextKey ∈ gw_tbl := List.mem_filter.mpr ⟨List.mem_of_getElem? (i := 299) rfl, rfl⟩
theorem q_sel_r_nextKey : Cond.selects y_r_nextKey.cls y_r_nextKey y_r_nextKey ∈ gw_tbl := List.mem_filter.mpr ⟨List.mem_of_getElem? (i := 300) rfl, rfl⟩
theorem q_code_r_sum : Cond.code y_r_sum b_r_sum 4 (some .int) ∈ gw_tbl := List.mem_filter.mpr ⟨List.mem_of_getElem? (i := 305) rfl, rfl⟩
theorem q_inst_r_sum : Cond.instanceMethod y_r_sum ∈ gw_tbl := List.mem_filter.mpr ⟨List.mem_of_getElem? (i := 303) rfl, rfl⟩
theorem q_sel_r_sum : Cond.selects y_r_sum.cls y_r_sum y_r_sum ∈ gw_tbl := List.mem_filter.mpr ⟨List.mem_of_getElem? (i := 304) rfl, rfl⟩
theorem q_code_r_changes : Cond.code y_r_changes b_r_changes 3 (some .int) ∈ gw_tbl := List.mem_filter.mpr ⟨List.mem_of_getElem? (i := 309) rfl, rfl⟩
theorem q_inst_r_changes : Cond.instanceMethod y_r_changes ∈ gw_tbl := List.mem_filter.mpr ⟨List.mem_of_getElem? (i := 307) rfl, rfl⟩
theorem q_sel_r_changes : Cond.selects y_r_changes.cls y_r_changes y_r_changes ∈ gw_tbl := List.mem_filter.mpr ⟨List.mem_of_getElem? (i := 308) rfl, rfl⟩
theorem q_code_m_init : Cond.code y_m_init b_m_init 1 none ∈ gw_tbl := List.mem_filter.mpr ⟨List.mem_of_getElem? (i := 314) rfl, rfl⟩
theorem q_inst_m_init : Cond.instanceMethod y_m_init ∈ gw_tbl := List.mem_filter.mpr ⟨List.mem_of_getElem? (i := 313) rfl, rfl⟩
theorem q_code_m_put : Cond.code y_m_put b_m_put 6 (some .int) ∈ gw_tbl := List.mem_filter.mpr ⟨List.mem_of_getElem? (i := 335) rfl, rfl⟩
theorem q_inst_m_put : Cond.instanceMethod y_m_put ∈ gw_tbl := List.mem_filter.mpr ⟨List.mem_of_getElem? (i := 333) rfl, rfl⟩
theorem q_sel_m_put : Cond.selects y_m_put.cls y_m_put y_m_put ∈ gw_tbl := List.mem_filter.mpr ⟨List.mem_of_getElem? (i := 334) rfl, rfl⟩
theorem q_code_m_hindrance : Cond.code y_m_hindrance b_m_hindrance 4 (some .int) ∈ gw_tbl := List.mem_filter.mpr ⟨List.mem_of_getElem? (i := 339) rfl, rfl⟩
theorem q_inst_m_hindrance : Cond.instanceMethod y_m_hindrance ∈ gw_tbl := List.mem_filter.mpr ⟨List.mem_of_getElem? (i := 338) rfl, rfl⟩
theorem q_sel_m_hindrance : Cond.selects y_m_hindrance.cls y_m_hindrance y_m_hindrance ∈ gw_tbl := List.mem_filter.mpr ⟨List.mem_of_getElem? (i := 27) rfl, rfl⟩
theorem q_code_m_machine : Cond.code y_m_machine b_m_machine 2 (some .boolean) ∈ gw_tbl := List.mem_filter.mpr ⟨List.mem_of_getElem? (i := 343) rfl, rfl⟩
theorem q_inst_m_machine : Cond.instanceMethod y_m_machine ∈ gw_tbl := List.mem_filter.mpr ⟨List.mem_of_getElem? (i := 342) rfl, rfl⟩
theorem q_sel_m_machine : Cond.selects y_m_machine.cls y_m_machine y_m_machine ∈ gw_tbl := List.mem_filter.mpr ⟨List.mem_of_getElem? (i := 28) rfl, rfl⟩
theorem q_code_m_key : Cond.code y_m_key b_m_key 2 (some .boolean) ∈ gw_tbl := List.mem_filter.mpr ⟨List.mem_of_getElem? (i := 347) rfl, rfl⟩
theorem q_inst_m_key : Cond.instanceMethod y_m_key ∈ gw_tbl := List.mem_filter.mpr ⟨List.mem_of_getElem? (i := 346) rfl, rfl⟩
theorem q_sel_m_key : Cond.selects y_m_key.cls y_m_key y_m_key ∈ gw_tbl := List.mem_filter.mpr ⟨List.mem_of_getElem? (i := 29) rfl, rfl⟩
theorem q_code_m_fits : Cond.code y_m_fits b_m_fits 2 (some .boolean) ∈ gw_tbl := List.mem_filter.mpr ⟨List.mem_of_getElem? (i := 351) rfl, rfl⟩
theorem q_inst_m_fits : Cond.instanceMethod y_m_fits ∈ gw_tbl := List.mem_filter.mpr ⟨List.mem_of_getElem? (i := 350) rfl, rfl⟩
theorem q_sel_m_fits : Cond.selects y_m_fits.cls y_m_fits y_m_fits ∈ gw_tbl := List.mem_filter.mpr ⟨List.mem_of_getElem? (i := 30) rfl, rfl⟩
theorem q_code_m_works : Cond.code y_m_works b_m_works 2 (some .boolean) ∈ gw_tbl := List.mem_filter.mpr ⟨List.mem_of_getElem? (i := 356) rfl, rfl⟩
theorem q_inst_m_works : Cond.instanceMethod y_m_works ∈ gw_tbl := List.mem_filter.mpr ⟨List.mem_of_getElem? (i := 355) rfl, rfl⟩
theorem q_sel_m_works : Cond.selects y_m_works.cls y_m_works y_m_works ∈ gw_tbl := List.mem_filter.mpr ⟨List.mem_of_getElem? (i := 31) rfl, rfl⟩
theorem q_code_m_member : Cond.code y_m_member b_m_member 2 (some .boolean) ∈ gw_tbl := List.mem_filter.mpr ⟨List.mem_of_getElem? (i := 360) rfl, rfl⟩
theorem q_inst_m_member : Cond.instanceMethod y_m_member ∈ gw_tbl := List.mem_filter.mpr ⟨List.mem_of_getElem? (i := 359) rfl, rfl⟩
theorem q_sel_m_member : Cond.selects y_m_member.cls y_m_member y_m_member ∈ gw_tbl := List.mem_filter.mpr ⟨List.mem_of_getElem? (i := 32) rfl, rfl⟩
theorem q_code_m_found : Cond.code y_m_found b_m_found 2 (some .int) ∈ gw_tbl := List.mem_filter.mpr ⟨List.mem_of_getElem? (i := 365) rfl, rfl⟩
theorem q_inst_m_found : Cond.instanceMethod y_m_found ∈ gw_tbl := List.mem_filter.mpr ⟨List.mem_of_getElem? (i := 364) rfl, rfl⟩
theorem q_sel_m_found : Cond.selects y_m_found.cls y_m_found y_m_found ∈ gw_tbl := List.mem_filter.mpr ⟨List.mem_of_getElem? (i := 33) rfl, rfl⟩
theorem q_code_m_write : Cond.code y_m_write b_m_write 4 none ∈ gw_tbl := List.mem_filter.mpr ⟨List.mem_of_getElem? (i := 370) rfl, rfl⟩
theorem q_inst_m_write : Cond.instanceMethod y_m_write ∈ gw_tbl := List.mem_filter.mpr ⟨List.mem_of_getElem? (i := 369) rfl, rfl⟩
theorem q_sel_m_write : Cond.selects y_m_write.cls y_m_write y_m_write ∈ gw_tbl := List.mem_filter.mpr ⟨List.mem_of_getElem? (i := 34) rfl, rfl⟩
theorem q_code_m_get : Cond.code y_m_get b_m_get 4 (some .int) ∈ gw_tbl := List.mem_filter.mpr ⟨List.mem_of_getElem? (i := 374) rfl, rfl⟩
theorem q_inst_m_get : Cond.instanceMethod y_m_get ∈ gw_tbl := List.mem_filter.mpr ⟨List.mem_of_getElem? (i := 372) rfl, rfl⟩
theorem q_sel_m_get : Cond.selects y_m_get.cls y_m_get y_m_get ∈ gw_tbl := List.mem_filter.mpr ⟨List.mem_of_getElem? (i := 373) rfl, rfl⟩
theorem q_code_m_remove : Cond.code y_m_remove b_m_remove 5 (some .int) ∈ gw_tbl := List.mem_filter.mpr ⟨List.mem_of_getElem? (i := 378) rfl, rfl⟩
theorem q_inst_m_remove : Cond.instanceMethod y_m_remove ∈ gw_tbl := List.mem_filter.mpr ⟨List.mem_of_getElem? (i := 376) rfl, rfl⟩
theorem q_sel_m_remove : Cond.selects y_m_remove.cls y_m_remove y_m_remove ∈ gw_tbl := List.mem_filter.mpr ⟨List.mem_of_getElem? (i := 377) rfl, rfl⟩
theorem q_code_m_add : Cond.code y_m_add b_m_add 6 (some .int) ∈ gw_tbl := List.mem_filter.mpr ⟨List.mem_of_getElem? (i := 382) rfl, rfl⟩
theorem q_inst_m_add : Cond.instanceMethod y_m_add ∈ gw_tbl := List.mem_filter.mpr ⟨List.mem_of_getElem? (i := 380) rfl, rfl⟩
theorem q_sel_m_add : Cond.selects y_m_add.cls y_m_add y_m_add ∈ gw_tbl := List.mem_filter.mpr ⟨List.mem_of_getElem? (i := 381) rfl, rfl⟩
theorem q_code_m_down : Cond.code y_m_down b_m_down 2 (some .boolean) ∈ gw_tbl := List.mem_filter.mpr ⟨List.mem_of_getElem? (i := 386) rfl, rfl⟩
theorem q_inst_m_down : Cond.instanceMethod y_m_down ∈ gw_tbl := List.mem_filter.mpr ⟨List.mem_of_getElem? (i := 384) rfl, rfl⟩
theorem q_sel_m_down : Cond.selects y_m_down.cls y_m_down y_m_down ∈ gw_tbl := List.mem_filter.mpr ⟨List.mem_of_getElem? (i := 385) rfl, rfl⟩
theorem q_code_m_up : Cond.code y_m_up b_m_up 3 (some .boolean) ∈ gw_tbl := List.mem_filter.mpr ⟨List.mem_of_getElem? (i := 390) rfl, rfl⟩
theorem q_inst_m_up : Cond.instanceMethod y_m_up ∈ gw_tbl := List.mem_filter.mpr ⟨List.mem_of_getElem? (i := 388) rfl, rfl⟩
theorem q_sel_m_up : Cond.selects y_m_up.cls y_m_up y_m_up ∈ gw_tbl := List.mem_filter.mpr ⟨List.mem_of_getElem? (i := 389) rfl, rfl⟩
theorem q_code_m_join : Cond.code y_m_join b_m_join 2 (some .int) ∈ gw_tbl := List.mem_filter.mpr ⟨List.mem_of_getElem? (i := 394) rfl, rfl⟩
theorem q_inst_m_join : Cond.instanceMethod y_m_join ∈ gw_tbl := List.mem_filter.mpr ⟨List.mem_of_getElem? (i := 392) rfl, rfl⟩
theorem q_sel_m_join : Cond.selects y_m_join.cls y_m_join y_m_join ∈ gw_tbl := List.mem_filter.mpr ⟨List.mem_of_getElem? (i := 393) rfl, rfl⟩
theorem q_code_m_many : Cond.code y_m_many b_m_many 3 (some .int) ∈ gw_tbl := List.mem_filter.mpr ⟨List.mem_of_getElem? (i := 398) rfl, rfl⟩
theorem q_inst_m_many : Cond.instanceMethod y_m_many ∈ gw_tbl := List.mem_filter.mpr ⟨List.mem_of_getElem? (i := 397) rfl, rfl⟩
theorem q_sel_m_many : Cond.selects y_m_many.cls y_m_many y_m_many ∈ gw_tbl := List.mem_filter.mpr ⟨List.mem_of_getElem? (i := 35) rfl, rfl⟩
theorem q_code_m_leave : Cond.code y_m_leave b_m_leave 2 (some .int) ∈ gw_tbl := List.mem_filter.mpr ⟨List.mem_of_getElem? (i := 402) rfl, rfl⟩
theorem q_inst_m_leave : Cond.instanceMethod y_m_leave ∈ gw_tbl := List.mem_filter.mpr ⟨List.mem_of_getElem? (i := 400) rfl, rfl⟩
theorem q_sel_m_leave : Cond.selects y_m_leave.cls y_m_leave y_m_leave ∈ gw_tbl := List.mem_filter.mpr ⟨List.mem_of_getElem? (i := 401) rfl, rfl⟩
theorem q_code_m_lose : Cond.code y_m_lose b_m_lose 2 (some .boolean) ∈ gw_tbl := List.mem_filter.mpr ⟨List.mem_of_getElem? (i := 406) rfl, rfl⟩
theorem q_inst_m_lose : Cond.instanceMethod y_m_lose ∈ gw_tbl := List.mem_filter.mpr ⟨List.mem_of_getElem? (i := 404) rfl, rfl⟩
theorem q_sel_m_lose : Cond.selects y_m_lose.cls y_m_lose y_m_lose ∈ gw_tbl := List.mem_filter.mpr ⟨List.mem_of_getElem? (i := 405) rfl, rfl⟩
theorem q_code_m_tidy : Cond.code y_m_tidy b_m_tidy 1 (some .int) ∈ gw_tbl := List.mem_filter.mpr ⟨List.mem_of_getElem? (i := 410) rfl, rfl⟩
theorem q_inst_m_tidy : Cond.instanceMethod y_m_tidy ∈ gw_tbl := List.mem_filter.mpr ⟨List.mem_of_getElem? (i := 408) rfl, rfl⟩
theorem q_sel_m_tidy : Cond.selects y_m_tidy.cls y_m_tidy y_m_tidy ∈ gw_tbl := List.mem_filter.mpr ⟨List.mem_of_getElem? (i := 409) rfl, rfl⟩
theorem q_code_m_size : Cond.code y_m_size b_m_size 3 (some .int) ∈ gw_tbl := List.mem_filter.mpr ⟨List.mem_of_getElem? (i := 414) rfl, rfl⟩
theorem q_inst_m_size : Cond.instanceMethod y_m_size ∈ gw_tbl := List.mem_filter.mpr ⟨List.mem_of_getElem? (i := 412) rfl, rfl⟩
theorem q_sel_m_size : Cond.selects y_m_size.cls y_m_size y_m_size ∈ gw_tbl := List.mem_filter.mpr ⟨List.mem_of_getElem? (i := 413) rfl, rfl⟩
theorem q_code_m_members : Cond.code y_m_members b_m_members 1 (some .int) ∈ gw_tbl := List.mem_filter.mpr ⟨List.mem_of_getElem? (i := 418) rfl, rfl⟩
theorem q_inst_m_members : Cond.instanceMethod y_m_members ∈ gw_tbl := List.mem_filter.mpr ⟨List.mem_of_getElem? (i := 416) rfl, rfl⟩
theorem q_sel_m_members : Cond.selects y_m_members.cls y_m_members y_m_members ∈ gw_tbl := List.mem_filter.mpr ⟨List.mem_of_getElem? (i := 417) rfl, rfl⟩
theorem q_code_m_working : Cond.code y_m_working b_m_working 1 (some .int) ∈ gw_tbl := List.mem_filter.mpr ⟨List.mem_of_getElem? (i := 422) rfl, rfl⟩
theorem q_inst_m_working : Cond.instanceMethod y_m_working ∈ gw_tbl := List.mem_filter.mpr ⟨List.mem_of_getElem? (i := 420) rfl, rfl⟩
theorem q_sel_m_working : Cond.selects y_m_working.cls y_m_working y_m_working ∈ gw_tbl := List.mem_filter.mpr ⟨List.mem_of_getElem? (i := 421) rfl, rfl⟩
theorem q_code_m_nextKey : Cond.code y_m_nextKey b_m_nextKey 3 (some .int) ∈ gw_tbl := List.mem_filter.mpr ⟨List.mem_of_getElem? (i := 427) rfl, rfl⟩
theorem q_inst_m_nextKey : Cond.instanceMethod y_m_nextKey ∈ gw_tbl := List.mem_filter.mpr ⟨List.mem_of_getElem? (i := 425) rfl, rfl⟩
theorem q_sel_m_nextKey : Cond.selects y_m_nextKey.cls y_m_nextKey y_m_nextKey ∈ gw_tbl := List.mem_filter.mpr ⟨List.mem_of_getElem? (i := 426) rfl, rfl⟩
theorem q_code_m_sum : Cond.code y_m_sum b_m_sum 3 (some .int) ∈ gw_tbl := List.mem_filter.mpr ⟨List.mem_of_getElem? (i := 431) rfl, rfl⟩
theorem q_inst_m_sum : Cond.instanceMethod y_m_sum ∈ gw_tbl := List.mem_filter.mpr ⟨List.mem_of_getElem? (i := 429) rfl, rfl⟩
theorem q_sel_m_sum : Cond.selects y_m_sum.cls y_m_sum y_m_sum ∈ gw_tbl := List.mem_filter.mpr ⟨List.mem_of_getElem? (i := 430) rfl, rfl⟩
theorem q_code_m_changes : Cond.code y_m_changes b_m_changes 2 (some .int) ∈ gw_tbl := List.mem_filter.mpr ⟨List.mem_of_getElem? (i := 435) rfl, rfl⟩
theorem q_inst_m_changes : Cond.instanceMethod y_m_changes ∈ gw_tbl := List.mem_filter.mpr ⟨List.mem_of_getElem? (i := 433) rfl, rfl⟩
theorem q_sel_m_changes : Cond.selects y_m_changes.cls y_m_changes y_m_changes ∈ gw_tbl := List.mem_filter.mpr ⟨List.mem_of_getElem? (i := 434) rfl, rfl⟩
theorem q_ini_l : Cond.initialized R_law ∈ gw_tbl := List.mem_filter.mpr ⟨List.mem_of_getElem? (i := 36) rfl, rfl⟩
theorem q_ini_r : Cond.initialized R_rr ∈ gw_tbl := List.mem_filter.mpr ⟨List.mem_of_getElem? (i := 37) rfl, rfl⟩
theorem q_ini_m : Cond.initialized R_md ∈ gw_tbl := List.mem_filter.mpr ⟨List.mem_of_getElem? (i := 38) rfl, rfl⟩
theorem q_link_l_r_init : Cond.methodLink R_law 9 y_r_init ∈ gw_tbl := List.mem_filter.mpr ⟨List.mem_of_getElem? (i := 41) rfl, rfl⟩
theorem q_link_r_obj : Cond.methodLink R_rr 1 objectInit ∈ gw_tbl := List.mem_filter.mpr ⟨List.mem_of_getElem? (i := 44) rfl, rfl⟩
theorem q_link_r_r_layRing : Cond.methodLink R_rr 55 y_r_layRing ∈ gw_tbl := List.mem_filter.mpr ⟨List.mem_of_getElem? (i := 47) rfl, rfl⟩
theorem q_link_r_r_isMember : Cond.methodLink R_rr 66 y_r_isMember ∈ gw_tbl := List.mem_filter.mpr ⟨List.mem_of_getElem? (i := 51) rfl, rfl⟩
theorem q_link_r_r_isMachine : Cond.methodLink R_rr 58 y_r_isMachine ∈ gw_tbl := List.mem_filter.mpr ⟨List.mem_of_getElem? (i := 55) rfl, rfl⟩
theorem q_link_r_r_mixed : Cond.methodLink R_rr 69 y_r_mixed ∈ gw_tbl := List.mem_filter.mpr ⟨List.mem_of_getElem? (i := 58) rfl, rfl⟩
theorem q_const_r_62 : Cond.constant R_rr 62 (40503 : Int32) ∈ gw_tbl := List.mem_filter.mpr ⟨List.mem_of_getElem? (i := 61) rfl, rfl⟩
theorem q_link_r_r_enterRing : Cond.methodLink R_rr 73 y_r_enterRing ∈ gw_tbl := List.mem_filter.mpr ⟨List.mem_of_getElem? (i := 62) rfl, rfl⟩
theorem q_link_l_r_put : Cond.methodLink R_law 13 y_r_put ∈ gw_tbl := List.mem_filter.mpr ⟨List.mem_of_getElem? (i := 133) rfl, rfl⟩
theorem q_link_r_r_isKey : Cond.methodLink R_rr 130 y_r_isKey ∈ gw_tbl := List.mem_filter.mpr ⟨List.mem_of_getElem? (i := 137) rfl, rfl⟩
theorem q_link_r_r_isNumber : Cond.methodLink R_rr 133 y_r_isNumber ∈ gw_tbl := List.mem_filter.mpr ⟨List.mem_of_getElem? (i := 140) rfl, rfl⟩
theorem q_const_r_136 : Cond.constant R_rr 136 (-100000 : Int32) ∈ gw_tbl := List.mem_filter.mpr ⟨List.mem_of_getElem? (i := 143) rfl, rfl⟩
theorem q_link_r_r_isWorking : Cond.methodLink R_rr 106 y_r_isWorking ∈ gw_tbl := List.mem_filter.mpr ⟨List.mem_of_getElem? (i := 144) rfl, rfl⟩
theorem q_const_r_137 : Cond.constant R_rr 137 (-300000 : Int32) ∈ gw_tbl := List.mem_filter.mpr ⟨List.mem_of_getElem? (i := 148) rfl, rfl⟩
theorem q_link_r_r_readNewest : Cond.methodLink R_rr 138 y_r_readNewest ∈ gw_tbl := List.mem_filter.mpr ⟨List.mem_of_getElem? (i := 149) rfl, rfl⟩
theorem q_link_r_r_findKeepers : Cond.methodLink R_rr 77 y_r_findKeepers ∈ gw_tbl := List.mem_filter.mpr ⟨List.mem_of_getElem? (i := 153) rfl, rfl⟩
theorem q_link_r_r_startWork : Cond.methodLink R_rr 100 y_r_startWork ∈ gw_tbl := List.mem_filter.mpr ⟨List.mem_of_getElem? (i := 157) rfl, rfl⟩
theorem q_link_r_r_ones : Cond.methodLink R_rr 103 y_r_ones ∈ gw_tbl := List.mem_filter.mpr ⟨List.mem_of_getElem? (i := 161) rfl, rfl⟩
theorem q_link_r_r_hasAnswered : Cond.methodLink R_rr 109 y_r_hasAnswered ∈ gw_tbl := List.mem_filter.mpr ⟨List.mem_of_getElem? (i := 164) rfl, rfl⟩
theorem q_link_r_r_comesThrough : Cond.methodLink R_rr 112 y_r_comesThrough ∈ gw_tbl := List.mem_filter.mpr ⟨List.mem_of_getElem? (i := 168) rfl, rfl⟩
theorem q_link_r_r_hear : Cond.methodLink R_rr 116 y_r_hear ∈ gw_tbl := List.mem_filter.mpr ⟨List.mem_of_getElem? (i := 172) rfl, rfl⟩
theorem q_link_r_r_store : Cond.methodLink R_rr 119 y_r_store ∈ gw_tbl := List.mem_filter.mpr ⟨List.mem_of_getElem? (i := 176) rfl, rfl⟩
theorem q_link_r_r_readNumber : Cond.methodLink R_rr 141 y_r_readNumber ∈ gw_tbl := List.mem_filter.mpr ⟨List.mem_of_getElem? (i := 180) rfl, rfl⟩
theorem q_const_r_129 : Cond.constant R_rr 129 (-200000 : Int32) ∈ gw_tbl := List.mem_filter.mpr ⟨List.mem_of_getElem? (i := 184) rfl, rfl⟩
theorem q_link_r_r_change : Cond.methodLink R_rr 145 y_r_change ∈ gw_tbl := List.mem_filter.mpr ⟨List.mem_of_getElem? (i := 185) rfl, rfl⟩
theorem q_link_r_r_writeNewest : Cond.methodLink R_rr 126 y_r_writeNewest ∈ gw_tbl := List.mem_filter.mpr ⟨List.mem_of_getElem? (i := 189) rfl, rfl⟩
theorem q_link_r_r_hint : Cond.methodLink R_rr 122 y_r_hint ∈ gw_tbl := List.mem_filter.mpr ⟨List.mem_of_getElem? (i := 193) rfl, rfl⟩
theorem q_link_l_r_get : Cond.methodLink R_law 18 y_r_get ∈ gw_tbl := List.mem_filter.mpr ⟨List.mem_of_getElem? (i := 197) rfl, rfl⟩
theorem q_link_l_r_remove : Cond.methodLink R_law 23 y_r_remove ∈ gw_tbl := List.mem_filter.mpr ⟨List.mem_of_getElem? (i := 201) rfl, rfl⟩
theorem q_link_l_r_add : Cond.methodLink R_law 27 y_r_add ∈ gw_tbl := List.mem_filter.mpr ⟨List.mem_of_getElem? (i := 205) rfl, rfl⟩
theorem q_link_l_r_down : Cond.methodLink R_law 31 y_r_down ∈ gw_tbl := List.mem_filter.mpr ⟨List.mem_of_getElem? (i := 209) rfl, rfl⟩
theorem q_link_l_r_up : Cond.methodLink R_law 36 y_r_up ∈ gw_tbl := List.mem_filter.mpr ⟨List.mem_of_getElem? (i := 213) rfl, rfl⟩
theorem q_link_r_r_erase : Cond.methodLink R_rr 170 y_r_erase ∈ gw_tbl := List.mem_filter.mpr ⟨List.mem_of_getElem? (i := 217) rfl, rfl⟩
theorem q_link_r_r_handOver : Cond.methodLink R_rr 173 y_r_handOver ∈ gw_tbl := List.mem_filter.mpr ⟨List.mem_of_getElem? (i := 221) rfl, rfl⟩
theorem q_link_r_r_compare : Cond.methodLink R_rr 167 y_r_compare ∈ gw_tbl := List.mem_filter.mpr ⟨List.mem_of_getElem? (i := 225) rfl, rfl⟩
theorem q_link_r_r_growTrees : Cond.methodLink R_rr 161 y_r_growTrees ∈ gw_tbl := List.mem_filter.mpr ⟨List.mem_of_getElem? (i := 229) rfl, rfl⟩
theorem q_link_r_r_leaf : Cond.methodLink R_rr 156 y_r_leaf ∈ gw_tbl := List.mem_filter.mpr ⟨List.mem_of_getElem? (i := 233) rfl, rfl⟩
theorem q_link_r_r_keeps : Cond.methodLink R_rr 149 y_r_keeps ∈ gw_tbl := List.mem_filter.mpr ⟨List.mem_of_getElem? (i := 237) rfl, rfl⟩
theorem q_link_r_r_sumOf : Cond.methodLink R_rr 152 y_r_sumOf ∈ gw_tbl := List.mem_filter.mpr ⟨List.mem_of_getElem? (i := 241) rfl, rfl⟩
theorem q_const_r_160 : Cond.constant R_rr 160 (1000003 : Int32) ∈ gw_tbl := List.mem_filter.mpr ⟨List.mem_of_getElem? (i := 244) rfl, rfl⟩
theorem q_link_r_r_exchange : Cond.methodLink R_rr 164 y_r_exchange ∈ gw_tbl := List.mem_filter.mpr ⟨List.mem_of_getElem? (i := 245) rfl, rfl⟩
theorem q_link_l_r_join : Cond.methodLink R_law 41 y_r_join ∈ gw_tbl := List.mem_filter.mpr ⟨List.mem_of_getElem? (i := 249) rfl, rfl⟩
theorem q_link_r_r_moveTo : Cond.methodLink R_rr 182 y_r_moveTo ∈ gw_tbl := List.mem_filter.mpr ⟨List.mem_of_getElem? (i := 253) rfl, rfl⟩
theorem q_link_r_r_leader : Cond.methodLink R_rr 176 y_r_leader ∈ gw_tbl := List.mem_filter.mpr ⟨List.mem_of_getElem? (i := 257) rfl, rfl⟩
theorem q_link_r_r_dropOthers : Cond.methodLink R_rr 179 y_r_dropOthers ∈ gw_tbl := List.mem_filter.mpr ⟨List.mem_of_getElem? (i := 261) rfl, rfl⟩
theorem q_link_l_r_leave : Cond.methodLink R_law 46 y_r_leave ∈ gw_tbl := List.mem_filter.mpr ⟨List.mem_of_getElem? (i := 265) rfl, rfl⟩
theorem q_link_l_r_lose : Cond.methodLink R_law 50 y_r_lose ∈ gw_tbl := List.mem_filter.mpr ⟨List.mem_of_getElem? (i := 269) rfl, rfl⟩
theorem q_link_l_r_tidy : Cond.methodLink R_law 54 y_r_tidy ∈ gw_tbl := List.mem_filter.mpr ⟨List.mem_of_getElem? (i := 273) rfl, rfl⟩
theorem q_link_r_r_compareAll : Cond.methodLink R_rr 185 y_r_compareAll ∈ gw_tbl := List.mem_filter.mpr ⟨List.mem_of_getElem? (i := 277) rfl, rfl⟩
theorem q_link_r_r_size : Cond.methodLink R_rr 188 y_r_size ∈ gw_tbl := List.mem_filter.mpr ⟨List.mem_of_getElem? (i := 281) rfl, rfl⟩
theorem q_link_r_r_numberOf : Cond.methodLink R_rr 191 y_r_numberOf ∈ gw_tbl := List.mem_filter.mpr ⟨List.mem_of_getElem? (i := 285) rfl, rfl⟩
theorem q_link_l_r_members : Cond.methodLink R_law 59 y_r_members ∈ gw_tbl := List.mem_filter.mpr ⟨List.mem_of_getElem? (i := 289) rfl, rfl⟩
theorem q_link_l_r_working : Cond.methodLink R_law 63 y_r_working ∈ gw_tbl := List.mem_filter.mpr ⟨List.mem_of_getElem? (i := 293) rfl, rfl⟩
theorem q_link_l_r_size : Cond.methodLink R_law 67 y_r_size ∈ gw_tbl := List.mem_filter.mpr ⟨List.mem_of_getElem? (i := 297) rfl, rfl⟩
theorem q_link_l_r_nextKey : Cond.methodLink R_law 71 y_r_nextKey ∈ gw_tbl := List.mem_filter.mpr ⟨List.mem_of_getElem? (i := 298) rfl, rfl⟩
theorem q_link_l_r_sum : Cond.methodLink R_law 75 y_r_sum ∈ gw_tbl := List.mem_filter.mpr ⟨List.mem_of_getElem? (i := 302) rfl, rfl⟩
theorem q_link_l_r_changes : Cond.methodLink R_law 79 y_r_changes ∈ gw_tbl := List.mem_filter.mpr ⟨List.mem_of_getElem? (i := 306) rfl, rfl⟩
theorem q_link_l_m_init : Cond.methodLink R_law 12 y_m_init ∈ gw_tbl := List.mem_filter.mpr ⟨List.mem_of_getElem? (i := 312) rfl, rfl⟩
theorem q_link_m_obj : Cond.methodLink R_md 1 objectInit ∈ gw_tbl := List.mem_filter.mpr ⟨List.mem_of_getElem? (i := 315) rfl, rfl⟩
theorem q_link_l_m_put : Cond.methodLink R_law 17 y_m_put ∈ gw_tbl := List.mem_filter.mpr ⟨List.mem_of_getElem? (i := 332) rfl, rfl⟩
theorem q_link_m_m_hindrance : Cond.methodLink R_md 46 y_m_hindrance ∈ gw_tbl := List.mem_filter.mpr ⟨List.mem_of_getElem? (i := 336) rfl, rfl⟩
theorem q_link_m_m_machine : Cond.methodLink R_md 27 y_m_machine ∈ gw_tbl := List.mem_filter.mpr ⟨List.mem_of_getElem? (i := 340) rfl, rfl⟩
theorem q_link_m_m_key : Cond.methodLink R_md 35 y_m_key ∈ gw_tbl := List.mem_filter.mpr ⟨List.mem_of_getElem? (i := 344) rfl, rfl⟩
theorem q_link_m_m_fits : Cond.methodLink R_md 38 y_m_fits ∈ gw_tbl := List.mem_filter.mpr ⟨List.mem_of_getElem? (i := 348) rfl, rfl⟩
theorem q_const_m_41 : Cond.constant R_md 41 (-100000 : Int32) ∈ gw_tbl := List.mem_filter.mpr ⟨List.mem_of_getElem? (i := 352) rfl, rfl⟩
theorem q_link_m_m_works : Cond.methodLink R_md 42 y_m_works ∈ gw_tbl := List.mem_filter.mpr ⟨List.mem_of_getElem? (i := 353) rfl, rfl⟩
theorem q_link_m_m_member : Cond.methodLink R_md 31 y_m_member ∈ gw_tbl := List.mem_filter.mpr ⟨List.mem_of_getElem? (i := 357) rfl, rfl⟩
theorem q_const_m_45 : Cond.constant R_md 45 (-300000 : Int32) ∈ gw_tbl := List.mem_filter.mpr ⟨List.mem_of_getElem? (i := 361) rfl, rfl⟩
theorem q_link_m_m_found : Cond.methodLink R_md 50 y_m_found ∈ gw_tbl := List.mem_filter.mpr ⟨List.mem_of_getElem? (i := 362) rfl, rfl⟩
theorem q_const_m_34 : Cond.constant R_md 34 (-200000 : Int32) ∈ gw_tbl := List.mem_filter.mpr ⟨List.mem_of_getElem? (i := 366) rfl, rfl⟩
theorem q_link_m_m_write : Cond.methodLink R_md 54 y_m_write ∈ gw_tbl := List.mem_filter.mpr ⟨List.mem_of_getElem? (i := 367) rfl, rfl⟩
theorem q_link_l_m_get : Cond.methodLink R_law 22 y_m_get ∈ gw_tbl := List.mem_filter.mpr ⟨List.mem_of_getElem? (i := 371) rfl, rfl⟩
theorem q_link_l_m_remove : Cond.methodLink R_law 26 y_m_remove ∈ gw_tbl := List.mem_filter.mpr ⟨List.mem_of_getElem? (i := 375) rfl, rfl⟩
theorem q_link_l_m_add : Cond.methodLink R_law 30 y_m_add ∈ gw_tbl := List.mem_filter.mpr ⟨List.mem_of_getElem? (i := 379) rfl, rfl⟩
theorem q_link_l_m_down : Cond.methodLink R_law 35 y_m_down ∈ gw_tbl := List.mem_filter.mpr ⟨List.mem_of_getElem? (i := 383) rfl, rfl⟩
theorem q_link_l_m_up : Cond.methodLink R_law 40 y_m_up ∈ gw_tbl := List.mem_filter.mpr ⟨List.mem_of_getElem? (i := 387) rfl, rfl⟩
theorem q_link_l_m_join : Cond.methodLink R_law 45 y_m_join ∈ gw_tbl := List.mem_filter.mpr ⟨List.mem_of_getElem? (i := 391) rfl, rfl⟩
theorem q_link_m_m_many : Cond.methodLink R_md 58 y_m_many ∈ gw_tbl := List.mem_filter.mpr ⟨List.mem_of_getElem? (i := 395) rfl, rfl⟩
theorem q_link_l_m_leave : Cond.methodLink R_law 49 y_m_leave ∈ gw_tbl := List.mem_filter.mpr ⟨List.mem_of_getElem? (i := 399) rfl, rfl⟩
theorem q_link_l_m_lose : Cond.methodLink R_law 53 y_m_lose ∈ gw_tbl := List.mem_filter.mpr ⟨List.mem_of_getElem? (i := 403) rfl, rfl⟩
theorem q_link_l_m_tidy : Cond.methodLink R_law 58 y_m_tidy ∈ gw_tbl := List.mem_filter.mpr ⟨List.mem_of_getElem? (i := 407) rfl, rfl⟩
theorem q_link_m_m_size : Cond.methodLink R_md 62 y_m_size ∈ gw_tbl := List.mem_filter.mpr ⟨List.mem_of_getElem? (i := 411) rfl, rfl⟩
theorem q_link_l_m_members : Cond.methodLink R_law 62 y_m_members ∈ gw_tbl := List.mem_filter.mpr ⟨List.mem_of_getElem? (i := 415) rfl, rfl⟩
theorem q_link_l_m_working : Cond.methodLink R_law 66 y_m_working ∈ gw_tbl := List.mem_filter.mpr ⟨List.mem_of_getElem? (i := 419) rfl, rfl⟩
theorem q_link_l_m_size : Cond.methodLink R_law 70 y_m_size ∈ gw_tbl := List.mem_filter.mpr ⟨List.mem_of_getElem? (i := 423) rfl, rfl⟩
theorem q_link_l_m_nextKey : Cond.methodLink R_law 74 y_m_nextKey ∈ gw_tbl := List.mem_filter.mpr ⟨List.mem_of_getElem? (i := 424) rfl, rfl⟩
theorem q_link_l_m_sum : Cond.methodLink R_law 78 y_m_sum ∈ gw_tbl := List.mem_filter.mpr ⟨List.mem_of_getElem? (i := 428) rfl, rfl⟩
theorem q_link_l_m_changes : Cond.methodLink R_law 82 y_m_changes ∈ gw_tbl := List.mem_filter.mpr ⟨List.mem_of_getElem? (i := 432) rfl, rfl⟩
end
section
theorem d_r_init_0 : decode b_r_init 0 = .ok (.aload_n 0, 1) := by decide +kernel
theorem d_r_init_1 : decode b_r_init 1 = .ok (.invokespecial 1, 3) := by decide +kernel
theorem d_r_init_4 : decode b_r_init 4 = .ok (.aload_n 0, 1) := by decide +kernel
theorem d_r_init_5 : decode b_r_init 5 = .ok (.bipush 7, 2) := by decide +kernel
theorem d_r_init_7 : decode b_r_init 7 = .ok (.putfield 7, 3) := by decide +kernel
theorem d_r_init_10 : decode b_r_init 10 = .ok (.aload_n 0, 1) := by decide +kernel
theorem d_r_init_11 : decode b_r_init 11 = .ok (.bipush 7, 2) := by decide +kernel
theorem d_r_init_13 : decode b_r_init 13 = .ok (.putfield 13, 3) := by decide +kernel
theorem d_r_init_16 : decode b_r_init 16 = .ok (.aload_n 0, 1) := by decide +kernel
theorem d_r_init_17 : decode b_r_init 17 = .ok (.bipush 24, 2) := by decide +kernel
theorem d_r_init_19 : decode b_r_init 19 = .ok (.newarray .int, 2) := by decide +kernel
theorem d_r_init_21 : decode b_r_init 21 = .ok (.putfield 16, 3) := by decide +kernel
theorem d_r_init_24 : decode b_r_init 24 = .ok (.aload_n 0, 1) := by decide +kernel
theorem d_r_init_25 : decode b_r_init 25 = .ok (.bipush 24, 2) := by decide +kernel
theorem d_r_init_27 : decode b_r_init 27 = .ok (.newarray .byte, 2) := by decide +kernel
theorem d_r_init_29 : decode b_r_init 29 = .ok (.putfield 20, 3) := by decide +kernel
theorem d_r_init_32 : decode b_r_init 32 = .ok (.aload_n 0, 1) := by decide +kernel
theorem d_r_init_33 : decode b_r_init 33 = .ok (.bipush 96, 2) := by decide +kernel
theorem d_r_init_35 : decode b_r_init 35 = .ok (.newarray .int, 2) := by decide +kernel
theorem d_r_init_37 : decode b_r_init 37 = .ok (.putfield 24, 3) := by decide +kernel
theorem d_r_init_40 : decode b_r_init 40 = .ok (.aload_n 0, 1) := by decide +kernel
theorem d_r_init_41 : decode b_r_init 41 = .ok (.bipush 96, 2) := by decide +kernel
theorem d_r_init_43 : decode b_r_init 43 = .ok (.newarray .int, 2) := by decide +kernel
theorem d_r_init_45 : decode b_r_init 45 = .ok (.putfield 27, 3) := by decide +kernel
theorem d_r_init_48 : decode b_r_init 48 = .ok (.aload_n 0, 1) := by decide +kernel
theorem d_r_init_49 : decode b_r_init 49 = .ok (.bipush 96, 2) := by decide +kernel
theorem d_r_init_51 : decode b_r_init 51 = .ok (.newarray .boolean, 2) := by decide +kernel
theorem d_r_init_53 : decode b_r_init 53 = .ok (.putfield 30, 3) := by decide +kernel
theorem d_r_init_56 : decode b_r_init 56 = .ok (.aload_n 0, 1) := by decide +kernel
theorem d_r_init_57 : decode b_r_init 57 = .ok (.sipush 576, 3) := by decide +kernel
theorem d_r_init_60 : decode b_r_init 60 = .ok (.newarray .int, 2) := by decide +kernel
theorem d_r_init_62 : decode b_r_init 62 = .ok (.putfield 34, 3) := by decide +kernel
theorem d_r_init_65 : decode b_r_init 65 = .ok (.aload_n 0, 1) := by decide +kernel
theorem d_r_init_66 : decode b_r_init 66 = .ok (.sipush 576, 3) := by decide +kernel
theorem d_r_init_69 : decode b_r_init 69 = .ok (.newarray .int, 2) := by decide +kernel
theorem d_r_init_71 : decode b_r_init 71 = .ok (.putfield 37, 3) := by decide +kernel
theorem d_r_init_74 : decode b_r_init 74 = .ok (.aload_n 0, 1) := by decide +kernel
theorem d_r_init_75 : decode b_r_init 75 = .ok (.sipush 576, 3) := by decide +kernel
theorem d_r_init_78 : decode b_r_init 78 = .ok (.newarray .boolean, 2) := by decide +kernel
theorem d_r_init_80 : decode b_r_init 80 = .ok (.putfield 40, 3) := by decide +kernel
theorem d_r_init_83 : decode b_r_init 83 = .ok (.aload_n 0, 1) := by decide +kernel
theorem d_r_init_84 : decode b_r_init 84 = .ok (.iconst 3, 1) := by decide +kernel
theorem d_r_init_85 : decode b_r_init 85 = .ok (.newarray .byte, 2) := by decide +kernel
theorem d_r_init_87 : decode b_r_init 87 = .ok (.putfield 43, 3) := by decide +kernel
theorem d_r_init_90 : decode b_r_init 90 = .ok (.aload_n 0, 1) := by decide +kernel
theorem d_r_init_91 : decode b_r_init 91 = .ok (.bipush 31, 2) := by decide +kernel
theorem d_r_init_93 : decode b_r_init 93 = .ok (.newarray .int, 2) := by decide +kernel
theorem d_r_init_95 : decode b_r_init 95 = .ok (.putfield 46, 3) := by decide +kernel
theorem d_r_init_98 : decode b_r_init 98 = .ok (.aload_n 0, 1) := by decide +kernel
theorem d_r_init_99 : decode b_r_init 99 = .ok (.bipush 31, 2) := by decide +kernel
theorem d_r_init_101 : decode b_r_init 101 = .ok (.newarray .int, 2) := by decide +kernel
theorem d_r_init_103 : decode b_r_init 103 = .ok (.putfield 49, 3) := by decide +kernel
theorem d_r_init_106 : decode b_r_init 106 = .ok (.aload_n 0, 1) := by decide +kernel
theorem d_r_init_107 : decode b_r_init 107 = .ok (.bipush 31, 2) := by decide +kernel
theorem d_r_init_109 : decode b_r_init 109 = .ok (.newarray .boolean, 2) := by decide +kernel
theorem d_r_init_111 : decode b_r_init 111 = .ok (.putfield 52, 3) := by decide +kernel
theorem d_r_init_114 : decode b_r_init 114 = .ok (.aload_n 0, 1) := by decide +kernel
theorem d_r_init_115 : decode b_r_init 115 = .ok (.invokevirtual 55, 3) := by decide +kernel
theorem d_r_init_118 : decode b_r_init 118 = .ok (.return_, 1) := by decide +kernel
theorem d_r_isMachine_0 : decode b_r_isMachine 0 = .ok (.iload_n 0, 1) := by decide +kernel
theorem d_r_isMachine_1 : decode b_r_isMachine 1 = .ok (.ifCond .lt 13, 3) := by decide +kernel
theorem d_r_isMachine_4 : decode b_r_isMachine 4 = .ok (.iload_n 0, 1) := by decide +kernel
theorem d_r_isMachine_5 : decode b_r_isMachine 5 = .ok (.bipush 6, 2) := by decide +kernel
theorem d_r_isMachine_7 : decode b_r_isMachine 7 = .ok (.if_icmp .ge 7, 3) := by decide +kernel
theorem d_r_isMachine_10 : decode b_r_isMachine 10 = .ok (.iconst 1, 1) := by decide +kernel
theorem d_r_isMachine_11 : decode b_r_isMachine 11 = .ok (.goto 4, 3) := by decide +kernel
theorem d_r_isMachine_14 : decode b_r_isMachine 14 = .ok (.iconst 0, 1) := by decide +kernel
theorem d_r_isMachine_15 : decode b_r_isMachine 15 = .ok (.ireturn, 1) := by decide +kernel
theorem d_r_isKey_0 : decode b_r_isKey 0 = .ok (.iload_n 0, 1) := by decide +kernel
theorem d_r_isKey_1 : decode b_r_isKey 1 = .ok (.ifCond .lt 13, 3) := by decide +kernel
theorem d_r_isKey_4 : decode b_r_isKey 4 = .ok (.iload_n 0, 1) := by decide +kernel
theorem d_r_isKey_5 : decode b_r_isKey 5 = .ok (.bipush 16, 2) := by decide +kernel
theorem d_r_isKey_7 : decode b_r_isKey 7 = .ok (.if_icmp .ge 7, 3) := by decide +kernel
theorem d_r_isKey_10 : decode b_r_isKey 10 = .ok (.iconst 1, 1) := by decide +kernel
theorem d_r_isKey_11 : decode b_r_isKey 11 = .ok (.goto 4, 3) := by decide +kernel
theorem d_r_isKey_14 : decode b_r_isKey 14 = .ok (.iconst 0, 1) := by decide +kernel
theorem d_r_isKey_15 : decode b_r_isKey 15 = .ok (.ireturn, 1) := by decide +kernel
theorem d_r_isNumber_0 : decode b_r_isNumber 0 = .ok (.iload_n 0, 1) := by decide +kernel
theorem d_r_isNumber_1 : decode b_r_isNumber 1 = .ok (.sipush (-9999), 3) := by decide +kernel
theorem d_r_isNumber_4 : decode b_r_isNumber 4 = .ok (.if_icmp .lt 14, 3) := by decide +kernel
theorem d_r_isNumber_7 : decode b_r_isNumber 7 = .ok (.iload_n 0, 1) := by decide +kernel
theorem d_r_isNumber_8 : decode b_r_isNumber 8 = .ok (.sipush 9999, 3) := by decide +kernel
theorem d_r_isNumber_11 : decode b_r_isNumber 11 = .ok (.if_icmp .gt 7, 3) := by decide +kernel
theorem d_r_isNumber_14 : decode b_r_isNumber 14 = .ok (.iconst 1, 1) := by decide +kernel
theorem d_r_isNumber_15 : decode b_r_isNumber 15 = .ok (.goto 4, 3) := by decide +kernel
theorem d_r_isNumber_18 : decode b_r_isNumber 18 = .ok (.iconst 0, 1) := by decide +kernel
theorem d_r_isNumber_19 : decode b_r_isNumber 19 = .ok (.ireturn, 1) := by decide +kernel
theorem d_r_isMember_0 : decode b_r_isMember 0 = .ok (.iload_n 1, 1) := by decide +kernel
theorem d_r_isMember_1 : decode b_r_isMember 1 = .ok (.invokestatic 58, 3) := by decide +kernel
theorem d_r_isMember_4 : decode b_r_isMember 4 = .ok (.ifCond .eq 18, 3) := by decide +kernel
theorem d_r_isMember_7 : decode b_r_isMember 7 = .ok (.aload_n 0, 1) := by decide +kernel
theorem d_r_isMember_8 : decode b_r_isMember 8 = .ok (.getfield 7, 3) := by decide +kernel
theorem d_r_isMember_11 : decode b_r_isMember 11 = .ok (.iload_n 1, 1) := by decide +kernel
theorem d_r_isMember_12 : decode b_r_isMember 12 = .ok (.ishr, 1) := by decide +kernel
theorem d_r_isMember_13 : decode b_r_isMember 13 = .ok (.iconst 1, 1) := by decide +kernel
theorem d_r_isMember_14 : decode b_r_isMember 14 = .ok (.iand, 1) := by decide +kernel
theorem d_r_isMember_15 : decode b_r_isMember 15 = .ok (.ifCond .eq 7, 3) := by decide +kernel
theorem d_r_isMember_18 : decode b_r_isMember 18 = .ok (.iconst 1, 1) := by decide +kernel
theorem d_r_isMember_19 : decode b_r_isMember 19 = .ok (.goto 4, 3) := by decide +kernel
theorem d_r_isMember_22 : decode b_r_isMember 22 = .ok (.iconst 0, 1) := by decide +kernel
theorem d_r_isMember_23 : decode b_r_isMember 23 = .ok (.ireturn, 1) := by decide +kernel
theorem d_r_isWorking_0 : decode b_r_isWorking 0 = .ok (.iload_n 1, 1) := by decide +kernel
theorem d_r_isWorking_1 : decode b_r_isWorking 1 = .ok (.invokestatic 58, 3) := by decide +kernel
theorem d_r_isWorking_4 : decode b_r_isWorking 4 = .ok (.ifCond .eq 18, 3) := by decide +kernel
theorem d_r_isWorking_7 : decode b_r_isWorking 7 = .ok (.aload_n 0, 1) := by decide +kernel
theorem d_r_isWorking_8 : decode b_r_isWorking 8 = .ok (.getfield 13, 3) := by decide +kernel
theorem d_r_isWorking_11 : decode b_r_isWorking 11 = .ok (.iload_n 1, 1) := by decide +kernel
theorem d_r_isWorking_12 : decode b_r_isWorking 12 = .ok (.ishr, 1) := by decide +kernel
theorem d_r_isWorking_13 : decode b_r_isWorking 13 = .ok (.iconst 1, 1) := by decide +kernel
theorem d_r_isWorking_14 : decode b_r_isWorking 14 = .ok (.iand, 1) := by decide +kernel
theorem d_r_isWorking_15 : decode b_r_isWorking 15 = .ok (.ifCond .eq 7, 3) := by decide +kernel
theorem d_r_isWorking_18 : decode b_r_isWorking 18 = .ok (.iconst 1, 1) := by decide +kernel
theorem d_r_isWorking_19 : decode b_r_isWorking 19 = .ok (.goto 4, 3) := by decide +kernel
theorem d_r_isWorking_22 : decode b_r_isWorking 22 = .ok (.iconst 0, 1) := by decide +kernel
theorem d_r_isWorking_23 : decode b_r_isWorking 23 = .ok (.ireturn, 1) := by decide +kernel
theorem d_r_ones_0 : decode b_r_ones 0 = .ok (.iconst 0, 1) := by decide +kernel
theorem d_r_ones_1 : decode b_r_ones 1 = .ok (.istore_n 1, 1) := by decide +kernel
theorem d_r_ones_2 : decode b_r_ones 2 = .ok (.iconst 0, 1) := by decide +kernel
theorem d_r_ones_3 : decode b_r_ones 3 = .ok (.istore_n 2, 1) := by decide +kernel
theorem d_r_ones_4 : decode b_r_ones 4 = .ok (.iload_n 2, 1) := by decide +kernel
theorem d_r_ones_5 : decode b_r_ones 5 = .ok (.bipush 6, 2) := by decide +kernel
theorem d_r_ones_7 : decode b_r_ones 7 = .ok (.if_icmp .ge 17, 3) := by decide +kernel
theorem d_r_ones_10 : decode b_r_ones 10 = .ok (.iload_n 1, 1) := by decide +kernel
theorem d_r_ones_11 : decode b_r_ones 11 = .ok (.iload_n 0, 1) := by decide +kernel
theorem d_r_ones_12 : decode b_r_ones 12 = .ok (.iload_n 2, 1) := by decide +kernel
theorem d_r_ones_13 : decode b_r_ones 13 = .ok (.ishr, 1) := by decide +kernel
theorem d_r_ones_14 : decode b_r_ones 14 = .ok (.iconst 1, 1) := by decide +kernel
theorem d_r_ones_15 : decode b_r_ones 15 = .ok (.iand, 1) := by decide +kernel
theorem d_r_ones_16 : decode b_r_ones 16 = .ok (.iadd, 1) := by decide +kernel
theorem d_r_ones_17 : decode b_r_ones 17 = .ok (.istore_n 1, 1) := by decide +kernel
theorem d_r_ones_18 : decode b_r_ones 18 = .ok (.iinc 2 1, 3) := by decide +kernel
theorem d_r_ones_21 : decode b_r_ones 21 = .ok (.goto (-17), 3) := by decide +kernel
theorem d_r_ones_24 : decode b_r_ones 24 = .ok (.iload_n 1, 1) := by decide +kernel
theorem d_r_ones_25 : decode b_r_ones 25 = .ok (.ireturn, 1) := by decide +kernel
theorem d_r_mixed_0 : decode b_r_mixed 0 = .ok (.iload_n 0, 1) := by decide +kernel
theorem d_r_mixed_1 : decode b_r_mixed 1 = .ok (.ldc 62, 2) := by decide +kernel
theorem d_r_mixed_3 : decode b_r_mixed 3 = .ok (.imul, 1) := by decide +kernel
theorem d_r_mixed_4 : decode b_r_mixed 4 = .ok (.sipush 30011, 3) := by decide +kernel
theorem d_r_mixed_7 : decode b_r_mixed 7 = .ok (.iadd, 1) := by decide +kernel
theorem d_r_mixed_8 : decode b_r_mixed 8 = .ok (.istore_n 1, 1) := by decide +kernel
theorem d_r_mixed_9 : decode b_r_mixed 9 = .ok (.iload_n 1, 1) := by decide +kernel
theorem d_r_mixed_10 : decode b_r_mixed 10 = .ok (.iload_n 1, 1) := by decide +kernel
theorem d_r_mixed_11 : decode b_r_mixed 11 = .ok (.bipush 7, 2) := by decide +kernel
theorem d_r_mixed_13 : decode b_r_mixed 13 = .ok (.iushr, 1) := by decide +kernel
theorem d_r_mixed_14 : decode b_r_mixed 14 = .ok (.ixor, 1) := by decide +kernel
theorem d_r_mixed_15 : decode b_r_mixed 15 = .ok (.istore_n 1, 1) := by decide +kernel
theorem d_r_mixed_16 : decode b_r_mixed 16 = .ok (.iload_n 1, 1) := by decide +kernel
theorem d_r_mixed_17 : decode b_r_mixed 17 = .ok (.sipush 26699, 3) := by decide +kernel
theorem d_r_mixed_20 : decode b_r_mixed 20 = .ok (.imul, 1) := by decide +kernel
theorem d_r_mixed_21 : decode b_r_mixed 21 = .ok (.istore_n 1, 1) := by decide +kernel
theorem d_r_mixed_22 : decode b_r_mixed 22 = .ok (.iload_n 1, 1) := by decide +kernel
theorem d_r_mixed_23 : decode b_r_mixed 23 = .ok (.iload_n 1, 1) := by decide +kernel
theorem d_r_mixed_24 : decode b_r_mixed 24 = .ok (.bipush 11, 2) := by decide +kernel
theorem d_r_mixed_26 : decode b_r_mixed 26 = .ok (.iushr, 1) := by decide +kernel
theorem d_r_mixed_27 : decode b_r_mixed 27 = .ok (.ixor, 1) := by decide +kernel
theorem d_r_mixed_28 : decode b_r_mixed 28 = .ok (.sipush 4095, 3) := by decide +kernel
theorem d_r_mixed_31 : decode b_r_mixed 31 = .ok (.iand, 1) := by decide +kernel
theorem d_r_mixed_32 : decode b_r_mixed 32 = .ok (.ireturn, 1) := by decide +kernel
theorem d_r_layRing_0 : decode b_r_layRing 0 = .ok (.aload_n 0, 1) := by decide +kernel
theorem d_r_layRing_1 : decode b_r_layRing 1 = .ok (.iconst 0, 1) := by decide +kernel
theorem d_r_layRing_2 : decode b_r_layRing 2 = .ok (.putfield 63, 3) := by decide +kernel
theorem d_r_layRing_5 : decode b_r_layRing 5 = .ok (.iconst 0, 1) := by decide +kernel
theorem d_r_layRing_6 : decode b_r_layRing 6 = .ok (.istore_n 1, 1) := by decide +kernel
theorem d_r_layRing_7 : decode b_r_layRing 7 = .ok (.iload_n 1, 1) := by decide +kernel
theorem d_r_layRing_8 : decode b_r_layRing 8 = .ok (.bipush 6, 2) := by decide +kernel
theorem d_r_layRing_10 : decode b_r_layRing 10 = .ok (.if_icmp .ge 48, 3) := by decide +kernel
theorem d_r_layRing_13 : decode b_r_layRing 13 = .ok (.iconst 0, 1) := by decide +kernel
theorem d_r_layRing_14 : decode b_r_layRing 14 = .ok (.istore_n 2, 1) := by decide +kernel
theorem d_r_layRing_15 : decode b_r_layRing 15 = .ok (.iload_n 2, 1) := by decide +kernel
theorem d_r_layRing_16 : decode b_r_layRing 16 = .ok (.iconst 4, 1) := by decide +kernel
theorem d_r_layRing_17 : decode b_r_layRing 17 = .ok (.if_icmp .ge 35, 3) := by decide +kernel
theorem d_r_layRing_20 : decode b_r_layRing 20 = .ok (.aload_n 0, 1) := by decide +kernel
theorem d_r_layRing_21 : decode b_r_layRing 21 = .ok (.iload_n 1, 1) := by decide +kernel
theorem d_r_layRing_22 : decode b_r_layRing 22 = .ok (.invokevirtual 66, 3) := by decide +kernel
theorem d_r_layRing_25 : decode b_r_layRing 25 = .ok (.ifCond .eq 21, 3) := by decide +kernel
theorem d_r_layRing_28 : decode b_r_layRing 28 = .ok (.iload_n 1, 1) := by decide +kernel
theorem d_r_layRing_29 : decode b_r_layRing 29 = .ok (.iconst 4, 1) := by decide +kernel
theorem d_r_layRing_30 : decode b_r_layRing 30 = .ok (.imul, 1) := by decide +kernel
theorem d_r_layRing_31 : decode b_r_layRing 31 = .ok (.iload_n 2, 1) := by decide +kernel
theorem d_r_layRing_32 : decode b_r_layRing 32 = .ok (.iadd, 1) := by decide +kernel
theorem d_r_layRing_33 : decode b_r_layRing 33 = .ok (.bipush 100, 2) := by decide +kernel
theorem d_r_layRing_35 : decode b_r_layRing 35 = .ok (.iadd, 1) := by decide +kernel
theorem d_r_layRing_36 : decode b_r_layRing 36 = .ok (.invokestatic 69, 3) := by decide +kernel
theorem d_r_layRing_39 : decode b_r_layRing 39 = .ok (.istore_n 3, 1) := by decide +kernel
theorem d_r_layRing_40 : decode b_r_layRing 40 = .ok (.aload_n 0, 1) := by decide +kernel
theorem d_r_layRing_41 : decode b_r_layRing 41 = .ok (.iload_n 3, 1) := by decide +kernel
theorem d_r_layRing_42 : decode b_r_layRing 42 = .ok (.iload_n 1, 1) := by decide +kernel
theorem d_r_layRing_43 : decode b_r_layRing 43 = .ok (.invokevirtual 73, 3) := by decide +kernel
theorem d_r_layRing_46 : decode b_r_layRing 46 = .ok (.iinc 2 1, 3) := by decide +kernel
theorem d_r_layRing_49 : decode b_r_layRing 49 = .ok (.goto (-34), 3) := by decide +kernel
theorem d_r_layRing_52 : decode b_r_layRing 52 = .ok (.iinc 1 1, 3) := by decide +kernel
theorem d_r_layRing_55 : decode b_r_layRing 55 = .ok (.goto (-48), 3) := by decide +kernel
theorem d_r_layRing_58 : decode b_r_layRing 58 = .ok (.return_, 1) := by decide +kernel
theorem d_r_enterRing_0 : decode b_r_enterRing 0 = .ok (.aload_n 0, 1) := by decide +kernel
theorem d_r_enterRing_1 : decode b_r_enterRing 1 = .ok (.getfield 63, 3) := by decide +kernel
theorem d_r_enterRing_4 : decode b_r_enterRing 4 = .ok (.istore_n 3, 1) := by decide +kernel
theorem d_r_enterRing_5 : decode b_r_enterRing 5 = .ok (.iload_n 3, 1) := by decide +kernel
theorem d_r_enterRing_6 : decode b_r_enterRing 6 = .ok (.ifCond .le 49, 3) := by decide +kernel
theorem d_r_enterRing_9 : decode b_r_enterRing 9 = .ok (.aload_n 0, 1) := by decide +kernel
theorem d_r_enterRing_10 : decode b_r_enterRing 10 = .ok (.getfield 16, 3) := by decide +kernel
theorem d_r_enterRing_13 : decode b_r_enterRing 13 = .ok (.iload_n 3, 1) := by decide +kernel
theorem d_r_enterRing_14 : decode b_r_enterRing 14 = .ok (.iconst 1, 1) := by decide +kernel
theorem d_r_enterRing_15 : decode b_r_enterRing 15 = .ok (.isub, 1) := by decide +kernel
theorem d_r_enterRing_16 : decode b_r_enterRing 16 = .ok (.iaload, 1) := by decide +kernel
theorem d_r_enterRing_17 : decode b_r_enterRing 17 = .ok (.iload_n 1, 1) := by decide +kernel
theorem d_r_enterRing_18 : decode b_r_enterRing 18 = .ok (.if_icmp .le 37, 3) := by decide +kernel
theorem d_r_enterRing_21 : decode b_r_enterRing 21 = .ok (.aload_n 0, 1) := by decide +kernel
theorem d_r_enterRing_22 : decode b_r_enterRing 22 = .ok (.getfield 16, 3) := by decide +kernel
theorem d_r_enterRing_25 : decode b_r_enterRing 25 = .ok (.iload_n 3, 1) := by decide +kernel
theorem d_r_enterRing_26 : decode b_r_enterRing 26 = .ok (.aload_n 0, 1) := by decide +kernel
theorem d_r_enterRing_27 : decode b_r_enterRing 27 = .ok (.getfield 16, 3) := by decide +kernel
theorem d_r_enterRing_30 : decode b_r_enterRing 30 = .ok (.iload_n 3, 1) := by decide +kernel
theorem d_r_enterRing_31 : decode b_r_enterRing 31 = .ok (.iconst 1, 1) := by decide +kernel
theorem d_r_enterRing_32 : decode b_r_enterRing 32 = .ok (.isub, 1) := by decide +kernel
theorem d_r_enterRing_33 : decode b_r_enterRing 33 = .ok (.iaload, 1) := by decide +kernel
theorem d_r_enterRing_34 : decode b_r_enterRing 34 = .ok (.iastore, 1) := by decide +kernel
theorem d_r_enterRing_35 : decode b_r_enterRing 35 = .ok (.aload_n 0, 1) := by decide +kernel
theorem d_r_enterRing_36 : decode b_r_enterRing 36 = .ok (.getfield 20, 3) := by decide +kernel
theorem d_r_enterRing_39 : decode b_r_enterRing 39 = .ok (.iload_n 3, 1) := by decide +kernel
theorem d_r_enterRing_40 : decode b_r_enterRing 40 = .ok (.aload_n 0, 1) := by decide +kernel
theorem d_r_enterRing_41 : decode b_r_enterRing 41 = .ok (.getfield 20, 3) := by decide +kernel
theorem d_r_enterRing_44 : decode b_r_enterRing 44 = .ok (.iload_n 3, 1) := by decide +kernel
theorem d_r_enterRing_45 : decode b_r_enterRing 45 = .ok (.iconst 1, 1) := by decide +kernel
theorem d_r_enterRing_46 : decode b_r_enterRing 46 = .ok (.isub, 1) := by decide +kernel
theorem d_r_enterRing_47 : decode b_r_enterRing 47 = .ok (.baload, 1) := by decide +kernel
theorem d_r_enterRing_48 : decode b_r_enterRing 48 = .ok (.bastore, 1) := by decide +kernel
theorem d_r_enterRing_49 : decode b_r_enterRing 49 = .ok (.iinc 3 (-1), 3) := by decide +kernel
theorem d_r_enterRing_52 : decode b_r_enterRing 52 = .ok (.goto (-47), 3) := by decide +kernel
theorem d_r_enterRing_55 : decode b_r_enterRing 55 = .ok (.aload_n 0, 1) := by decide +kernel
theorem d_r_enterRing_56 : decode b_r_enterRing 56 = .ok (.getfield 16, 3) := by decide +kernel
theorem d_r_enterRing_59 : decode b_r_enterRing 59 = .ok (.iload_n 3, 1) := by decide +kernel
theorem d_r_enterRing_60 : decode b_r_enterRing 60 = .ok (.iload_n 1, 1) := by decide +kernel
theorem d_r_enterRing_61 : decode b_r_enterRing 61 = .ok (.iastore, 1) := by decide +kernel
theorem d_r_enterRing_62 : decode b_r_enterRing 62 = .ok (.aload_n 0, 1) := by decide +kernel
theorem d_r_enterRing_63 : decode b_r_enterRing 63 = .ok (.getfield 20, 3) := by decide +kernel
theorem d_r_enterRing_66 : decode b_r_enterRing 66 = .ok (.iload_n 3, 1) := by decide +kernel
theorem d_r_enterRing_67 : decode b_r_enterRing 67 = .ok (.iload_n 2, 1) := by decide +kernel
theorem d_r_enterRing_68 : decode b_r_enterRing 68 = .ok (.i2b, 1) := by decide +kernel
theorem d_r_enterRing_69 : decode b_r_enterRing 69 = .ok (.bastore, 1) := by decide +kernel
theorem d_r_enterRing_70 : decode b_r_enterRing 70 = .ok (.aload_n 0, 1) := by decide +kernel
theorem d_r_enterRing_71 : decode b_r_enterRing 71 = .ok (.dup, 1) := by decide +kernel
theorem d_r_enterRing_72 : decode b_r_enterRing 72 = .ok (.getfield 63, 3) := by decide +kernel
theorem d_r_enterRing_75 : decode b_r_enterRing 75 = .ok (.iconst 1, 1) := by decide +kernel
theorem d_r_enterRing_76 : decode b_r_enterRing 76 = .ok (.iadd, 1) := by decide +kernel
theorem d_r_enterRing_77 : decode b_r_enterRing 77 = .ok (.putfield 63, 3) := by decide +kernel
theorem d_r_enterRing_80 : decode b_r_enterRing 80 = .ok (.return_, 1) := by decide +kernel
theorem d_r_findKeepers_0 : decode b_r_findKeepers 0 = .ok (.iload_n 1, 1) := by decide +kernel
theorem d_r_findKeepers_1 : decode b_r_findKeepers 1 = .ok (.invokestatic 69, 3) := by decide +kernel
theorem d_r_findKeepers_4 : decode b_r_findKeepers 4 = .ok (.istore_n 2, 1) := by decide +kernel
theorem d_r_findKeepers_5 : decode b_r_findKeepers 5 = .ok (.iconst 0, 1) := by decide +kernel
theorem d_r_findKeepers_6 : decode b_r_findKeepers 6 = .ok (.istore_n 3, 1) := by decide +kernel
theorem d_r_findKeepers_7 : decode b_r_findKeepers 7 = .ok (.aload_n 0, 1) := by decide +kernel
theorem d_r_findKeepers_8 : decode b_r_findKeepers 8 = .ok (.getfield 63, 3) := by decide +kernel
theorem d_r_findKeepers_11 : decode b_r_findKeepers 11 = .ok (.istore 4, 2) := by decide +kernel
theorem d_r_findKeepers_13 : decode b_r_findKeepers 13 = .ok (.iconst 0, 1) := by decide +kernel
theorem d_r_findKeepers_14 : decode b_r_findKeepers 14 = .ok (.istore 5, 2) := by decide +kernel
theorem d_r_findKeepers_16 : decode b_r_findKeepers 16 = .ok (.iload 5, 2) := by decide +kernel
theorem d_r_findKeepers_18 : decode b_r_findKeepers 18 = .ok (.bipush 6, 2) := by decide +kernel
theorem d_r_findKeepers_20 : decode b_r_findKeepers 20 = .ok (.if_icmp .ge 46, 3) := by decide +kernel
theorem d_r_findKeepers_23 : decode b_r_findKeepers 23 = .ok (.iload_n 3, 1) := by decide +kernel
theorem d_r_findKeepers_24 : decode b_r_findKeepers 24 = .ok (.iload 4, 2) := by decide +kernel
theorem d_r_findKeepers_26 : decode b_r_findKeepers 26 = .ok (.if_icmp .ge 40, 3) := by decide +kernel
theorem d_r_findKeepers_29 : decode b_r_findKeepers 29 = .ok (.iload_n 3, 1) := by decide +kernel
theorem d_r_findKeepers_30 : decode b_r_findKeepers 30 = .ok (.iload 4, 2) := by decide +kernel
theorem d_r_findKeepers_32 : decode b_r_findKeepers 32 = .ok (.iadd, 1) := by decide +kernel
theorem d_r_findKeepers_33 : decode b_r_findKeepers 33 = .ok (.iconst 2, 1) := by decide +kernel
theorem d_r_findKeepers_34 : decode b_r_findKeepers 34 = .ok (.idiv, 1) := by decide +kernel
theorem d_r_findKeepers_35 : decode b_r_findKeepers 35 = .ok (.istore 6, 2) := by decide +kernel
theorem d_r_findKeepers_37 : decode b_r_findKeepers 37 = .ok (.aload_n 0, 1) := by decide +kernel
theorem d_r_findKeepers_38 : decode b_r_findKeepers 38 = .ok (.getfield 16, 3) := by decide +kernel
theorem d_r_findKeepers_41 : decode b_r_findKeepers 41 = .ok (.iload 6, 2) := by decide +kernel
theorem d_r_findKeepers_43 : decode b_r_findKeepers 43 = .ok (.iaload, 1) := by decide +kernel
theorem d_r_findKeepers_44 : decode b_r_findKeepers 44 = .ok (.iload_n 2, 1) := by decide +kernel
theorem d_r_findKeepers_45 : decode b_r_findKeepers 45 = .ok (.if_icmp .ge 11, 3) := by decide +kernel
theorem d_r_findKeepers_48 : decode b_r_findKeepers 48 = .ok (.iload 6, 2) := by decide +kernel
theorem d_r_findKeepers_50 : decode b_r_findKeepers 50 = .ok (.iconst 1, 1) := by decide +kernel
theorem d_r_findKeepers_51 : decode b_r_findKeepers 51 = .ok (.iadd, 1) := by decide +kernel
theorem d_r_findKeepers_52 : decode b_r_findKeepers 52 = .ok (.istore_n 3, 1) := by decide +kernel
theorem d_r_findKeepers_53 : decode b_r_findKeepers 53 = .ok (.goto 7, 3) := by decide +kernel
theorem d_r_findKeepers_56 : decode b_r_findKeepers 56 = .ok (.iload 6, 2) := by decide +kernel
theorem d_r_findKeepers_58 : decode b_r_findKeepers 58 = .ok (.istore 4, 2) := by decide +kernel
theorem d_r_findKeepers_60 : decode b_r_findKeepers 60 = .ok (.iinc 5 1, 3) := by decide +kernel
theorem d_r_findKeepers_63 : decode b_r_findKeepers 63 = .ok (.goto (-47), 3) := by decide +kernel
theorem d_r_findKeepers_66 : decode b_r_findKeepers 66 = .ok (.iconst 0, 1) := by decide +kernel
theorem d_r_findKeepers_67 : decode b_r_findKeepers 67 = .ok (.istore 5, 2) := by decide +kernel
theorem d_r_findKeepers_69 : decode b_r_findKeepers 69 = .ok (.iconst 0, 1) := by decide +kernel
theorem d_r_findKeepers_70 : decode b_r_findKeepers 70 = .ok (.istore 6, 2) := by decide +kernel
theorem d_r_findKeepers_72 : decode b_r_findKeepers 72 = .ok (.iconst 0, 1) := by decide +kernel
theorem d_r_findKeepers_73 : decode b_r_findKeepers 73 = .ok (.istore 7, 2) := by decide +kernel
theorem d_r_findKeepers_75 : decode b_r_findKeepers 75 = .ok (.iload 7, 2) := by decide +kernel
theorem d_r_findKeepers_77 : decode b_r_findKeepers 77 = .ok (.aload_n 0, 1) := by decide +kernel
theorem d_r_findKeepers_78 : decode b_r_findKeepers 78 = .ok (.getfield 63, 3) := by decide +kernel
theorem d_r_findKeepers_81 : decode b_r_findKeepers 81 = .ok (.if_icmp .ge 63, 3) := by decide +kernel
theorem d_r_findKeepers_84 : decode b_r_findKeepers 84 = .ok (.iload 5, 2) := by decide +kernel
theorem d_r_findKeepers_86 : decode b_r_findKeepers 86 = .ok (.iconst 3, 1) := by decide +kernel
theorem d_r_findKeepers_87 : decode b_r_findKeepers 87 = .ok (.if_icmp .ge 57, 3) := by decide +kernel
theorem d_r_findKeepers_90 : decode b_r_findKeepers 90 = .ok (.aload_n 0, 1) := by decide +kernel
theorem d_r_findKeepers_91 : decode b_r_findKeepers 91 = .ok (.getfield 20, 3) := by decide +kernel
theorem d_r_findKeepers_94 : decode b_r_findKeepers 94 = .ok (.iload_n 3, 1) := by decide +kernel
theorem d_r_findKeepers_95 : decode b_r_findKeepers 95 = .ok (.iload 7, 2) := by decide +kernel
theorem d_r_findKeepers_97 : decode b_r_findKeepers 97 = .ok (.iadd, 1) := by decide +kernel
theorem d_r_findKeepers_98 : decode b_r_findKeepers 98 = .ok (.aload_n 0, 1) := by decide +kernel
theorem d_r_findKeepers_99 : decode b_r_findKeepers 99 = .ok (.getfield 63, 3) := by decide +kernel
theorem d_r_findKeepers_102 : decode b_r_findKeepers 102 = .ok (.irem, 1) := by decide +kernel
theorem d_r_findKeepers_103 : decode b_r_findKeepers 103 = .ok (.baload, 1) := by decide +kernel
theorem d_r_findKeepers_104 : decode b_r_findKeepers 104 = .ok (.istore 8, 2) := by decide +kernel
theorem d_r_findKeepers_106 : decode b_r_findKeepers 106 = .ok (.iload 6, 2) := by decide +kernel
theorem d_r_findKeepers_108 : decode b_r_findKeepers 108 = .ok (.iload 8, 2) := by decide +kernel
theorem d_r_findKeepers_110 : decode b_r_findKeepers 110 = .ok (.ishr, 1) := by decide +kernel
theorem d_r_findKeepers_111 : decode b_r_findKeepers 111 = .ok (.iconst 1, 1) := by decide +kernel
theorem d_r_findKeepers_112 : decode b_r_findKeepers 112 = .ok (.iand, 1) := by decide +kernel
theorem d_r_findKeepers_113 : decode b_r_findKeepers 113 = .ok (.ifCond .ne 25, 3) := by decide +kernel
theorem d_r_findKeepers_116 : decode b_r_findKeepers 116 = .ok (.iload 6, 2) := by decide +kernel
theorem d_r_findKeepers_118 : decode b_r_findKeepers 118 = .ok (.iconst 1, 1) := by decide +kernel
theorem d_r_findKeepers_119 : decode b_r_findKeepers 119 = .ok (.iload 8, 2) := by decide +kernel
theorem d_r_findKeepers_121 : decode b_r_findKeepers 121 = .ok (.ishl, 1) := by decide +kernel
theorem d_r_findKeepers_122 : decode b_r_findKeepers 122 = .ok (.ior, 1) := by decide +kernel
theorem d_r_findKeepers_123 : decode b_r_findKeepers 123 = .ok (.istore 6, 2) := by decide +kernel
theorem d_r_findKeepers_125 : decode b_r_findKeepers 125 = .ok (.aload_n 0, 1) := by decide +kernel
theorem d_r_findKeepers_126 : decode b_r_findKeepers 126 = .ok (.getfield 43, 3) := by decide +kernel
theorem d_r_findKeepers_129 : decode b_r_findKeepers 129 = .ok (.iload 5, 2) := by decide +kernel
theorem d_r_findKeepers_131 : decode b_r_findKeepers 131 = .ok (.iload 8, 2) := by decide +kernel
theorem d_r_findKeepers_133 : decode b_r_findKeepers 133 = .ok (.i2b, 1) := by decide +kernel
theorem d_r_findKeepers_134 : decode b_r_findKeepers 134 = .ok (.bastore, 1) := by decide +kernel
theorem d_r_findKeepers_135 : decode b_r_findKeepers 135 = .ok (.iinc 5 1, 3) := by decide +kernel
theorem d_r_findKeepers_138 : decode b_r_findKeepers 138 = .ok (.iinc 7 1, 3) := by decide +kernel
theorem d_r_findKeepers_141 : decode b_r_findKeepers 141 = .ok (.goto (-66), 3) := by decide +kernel
theorem d_r_findKeepers_144 : decode b_r_findKeepers 144 = .ok (.return_, 1) := by decide +kernel
theorem d_r_keeps_0 : decode b_r_keeps 0 = .ok (.aload_n 0, 1) := by decide +kernel
theorem d_r_keeps_1 : decode b_r_keeps 1 = .ok (.iload_n 2, 1) := by decide +kernel
theorem d_r_keeps_2 : decode b_r_keeps 2 = .ok (.invokevirtual 77, 3) := by decide +kernel
theorem d_r_keeps_5 : decode b_r_keeps 5 = .ok (.aload_n 0, 1) := by decide +kernel
theorem d_r_keeps_6 : decode b_r_keeps 6 = .ok (.getfield 43, 3) := by decide +kernel
theorem d_r_keeps_9 : decode b_r_keeps 9 = .ok (.iconst 0, 1) := by decide +kernel
theorem d_r_keeps_10 : decode b_r_keeps 10 = .ok (.baload, 1) := by decide +kernel
theorem d_r_keeps_11 : decode b_r_keeps 11 = .ok (.iload_n 1, 1) := by decide +kernel
theorem d_r_keeps_12 : decode b_r_keeps 12 = .ok (.if_icmp .eq 23, 3) := by decide +kernel
theorem d_r_keeps_15 : decode b_r_keeps 15 = .ok (.aload_n 0, 1) := by decide +kernel
theorem d_r_keeps_16 : decode b_r_keeps 16 = .ok (.getfield 43, 3) := by decide +kernel
theorem d_r_keeps_19 : decode b_r_keeps 19 = .ok (.iconst 1, 1) := by decide +kernel
theorem d_r_keeps_20 : decode b_r_keeps 20 = .ok (.baload, 1) := by decide +kernel
theorem d_r_keeps_21 : decode b_r_keeps 21 = .ok (.iload_n 1, 1) := by decide +kernel
theorem d_r_keeps_22 : decode b_r_keeps 22 = .ok (.if_icmp .eq 13, 3) := by decide +kernel
theorem d_r_keeps_25 : decode b_r_keeps 25 = .ok (.aload_n 0, 1) := by decide +kernel
theorem d_r_keeps_26 : decode b_r_keeps 26 = .ok (.getfield 43, 3) := by decide +kernel
theorem d_r_keeps_29 : decode b_r_keeps 29 = .ok (.iconst 2, 1) := by decide +kernel
theorem d_r_keeps_30 : decode b_r_keeps 30 = .ok (.baload, 1) := by decide +kernel
theorem d_r_keeps_31 : decode b_r_keeps 31 = .ok (.iload_n 1, 1) := by decide +kernel
theorem d_r_keeps_32 : decode b_r_keeps 32 = .ok (.if_icmp .ne 7, 3) := by decide +kernel
theorem d_r_keeps_35 : decode b_r_keeps 35 = .ok (.iconst 1, 1) := by decide +kernel
theorem d_r_keeps_36 : decode b_r_keeps 36 = .ok (.goto 4, 3) := by decide +kernel
theorem d_r_keeps_39 : decode b_r_keeps 39 = .ok (.iconst 0, 1) := by decide +kernel
theorem d_r_keeps_40 : decode b_r_keeps 40 = .ok (.ireturn, 1) := by decide +kernel
theorem d_r_comesThrough_0 : decode b_r_comesThrough 0 = .ok (.iload_n 1, 1) := by decide +kernel
theorem d_r_comesThrough_1 : decode b_r_comesThrough 1 = .ok (.iload_n 2, 1) := by decide +kernel
theorem d_r_comesThrough_2 : decode b_r_comesThrough 2 = .ok (.if_icmp .ne 5, 3) := by decide +kernel
theorem d_r_comesThrough_5 : decode b_r_comesThrough 5 = .ok (.iconst 1, 1) := by decide +kernel
theorem d_r_comesThrough_6 : decode b_r_comesThrough 6 = .ok (.ireturn, 1) := by decide +kernel
theorem d_r_comesThrough_7 : decode b_r_comesThrough 7 = .ok (.aload_n 0, 1) := by decide +kernel
theorem d_r_comesThrough_8 : decode b_r_comesThrough 8 = .ok (.dup, 1) := by decide +kernel
theorem d_r_comesThrough_9 : decode b_r_comesThrough 9 = .ok (.getfield 81, 3) := by decide +kernel
theorem d_r_comesThrough_12 : decode b_r_comesThrough 12 = .ok (.iconst 1, 1) := by decide +kernel
theorem d_r_comesThrough_13 : decode b_r_comesThrough 13 = .ok (.iadd, 1) := by decide +kernel
theorem d_r_comesThrough_14 : decode b_r_comesThrough 14 = .ok (.putfield 81, 3) := by decide +kernel
theorem d_r_comesThrough_17 : decode b_r_comesThrough 17 = .ok (.aload_n 0, 1) := by decide +kernel
theorem d_r_comesThrough_18 : decode b_r_comesThrough 18 = .ok (.getfield 84, 3) := by decide +kernel
theorem d_r_comesThrough_21 : decode b_r_comesThrough 21 = .ok (.ifCond .ne 5, 3) := by decide +kernel
theorem d_r_comesThrough_24 : decode b_r_comesThrough 24 = .ok (.iconst 1, 1) := by decide +kernel
theorem d_r_comesThrough_25 : decode b_r_comesThrough 25 = .ok (.ireturn, 1) := by decide +kernel
theorem d_r_comesThrough_26 : decode b_r_comesThrough 26 = .ok (.aload_n 0, 1) := by decide +kernel
theorem d_r_comesThrough_27 : decode b_r_comesThrough 27 = .ok (.dup, 1) := by decide +kernel
theorem d_r_comesThrough_28 : decode b_r_comesThrough 28 = .ok (.getfield 84, 3) := by decide +kernel
theorem d_r_comesThrough_31 : decode b_r_comesThrough 31 = .ok (.iconst 1, 1) := by decide +kernel
theorem d_r_comesThrough_32 : decode b_r_comesThrough 32 = .ok (.isub, 1) := by decide +kernel
theorem d_r_comesThrough_33 : decode b_r_comesThrough 33 = .ok (.putfield 84, 3) := by decide +kernel
theorem d_r_comesThrough_36 : decode b_r_comesThrough 36 = .ok (.aload_n 0, 1) := by decide +kernel
theorem d_r_comesThrough_37 : decode b_r_comesThrough 37 = .ok (.getfield 81, 3) := by decide +kernel
theorem d_r_comesThrough_40 : decode b_r_comesThrough 40 = .ok (.iconst 2, 1) := by decide +kernel
theorem d_r_comesThrough_41 : decode b_r_comesThrough 41 = .ok (.irem, 1) := by decide +kernel
theorem d_r_comesThrough_42 : decode b_r_comesThrough 42 = .ok (.ifCond .ne 7, 3) := by decide +kernel
theorem d_r_comesThrough_45 : decode b_r_comesThrough 45 = .ok (.iconst 1, 1) := by decide +kernel
theorem d_r_comesThrough_46 : decode b_r_comesThrough 46 = .ok (.goto 4, 3) := by decide +kernel
theorem d_r_comesThrough_49 : decode b_r_comesThrough 49 = .ok (.iconst 0, 1) := by decide +kernel
theorem d_r_comesThrough_50 : decode b_r_comesThrough 50 = .ok (.ireturn, 1) := by decide +kernel
theorem d_r_store_0 : decode b_r_store 0 = .ok (.iload_n 1, 1) := by decide +kernel
theorem d_r_store_1 : decode b_r_store 1 = .ok (.bipush 16, 2) := by decide +kernel
theorem d_r_store_3 : decode b_r_store 3 = .ok (.imul, 1) := by decide +kernel
theorem d_r_store_4 : decode b_r_store 4 = .ok (.iload_n 2, 1) := by decide +kernel
theorem d_r_store_5 : decode b_r_store 5 = .ok (.iadd, 1) := by decide +kernel
theorem d_r_store_6 : decode b_r_store 6 = .ok (.istore_n 3, 1) := by decide +kernel
theorem d_r_store_7 : decode b_r_store 7 = .ok (.aload_n 0, 1) := by decide +kernel
theorem d_r_store_8 : decode b_r_store 8 = .ok (.getfield 87, 3) := by decide +kernel
theorem d_r_store_11 : decode b_r_store 11 = .ok (.aload_n 0, 1) := by decide +kernel
theorem d_r_store_12 : decode b_r_store 12 = .ok (.getfield 24, 3) := by decide +kernel
theorem d_r_store_15 : decode b_r_store 15 = .ok (.iload_n 3, 1) := by decide +kernel
theorem d_r_store_16 : decode b_r_store 16 = .ok (.iaload, 1) := by decide +kernel
theorem d_r_store_17 : decode b_r_store 17 = .ok (.if_icmp .le 33, 3) := by decide +kernel
theorem d_r_store_20 : decode b_r_store 20 = .ok (.aload_n 0, 1) := by decide +kernel
theorem d_r_store_21 : decode b_r_store 21 = .ok (.getfield 24, 3) := by decide +kernel
theorem d_r_store_24 : decode b_r_store 24 = .ok (.iload_n 3, 1) := by decide +kernel
theorem d_r_store_25 : decode b_r_store 25 = .ok (.aload_n 0, 1) := by decide +kernel
theorem d_r_store_26 : decode b_r_store 26 = .ok (.getfield 87, 3) := by decide +kernel
theorem d_r_store_29 : decode b_r_store 29 = .ok (.iastore, 1) := by decide +kernel
theorem d_r_store_30 : decode b_r_store 30 = .ok (.aload_n 0, 1) := by decide +kernel
theorem d_r_store_31 : decode b_r_store 31 = .ok (.getfield 27, 3) := by decide +kernel
theorem d_r_store_34 : decode b_r_store 34 = .ok (.iload_n 3, 1) := by decide +kernel
theorem d_r_store_35 : decode b_r_store 35 = .ok (.aload_n 0, 1) := by decide +kernel
theorem d_r_store_36 : decode b_r_store 36 = .ok (.getfield 90, 3) := by decide +kernel
theorem d_r_store_39 : decode b_r_store 39 = .ok (.iastore, 1) := by decide +kernel
theorem d_r_store_40 : decode b_r_store 40 = .ok (.aload_n 0, 1) := by decide +kernel
theorem d_r_store_41 : decode b_r_store 41 = .ok (.getfield 30, 3) := by decide +kernel
theorem d_r_store_44 : decode b_r_store 44 = .ok (.iload_n 3, 1) := by decide +kernel
theorem d_r_store_45 : decode b_r_store 45 = .ok (.aload_n 0, 1) := by decide +kernel
theorem d_r_store_46 : decode b_r_store 46 = .ok (.getfield 93, 3) := by decide +kernel
theorem d_r_store_49 : decode b_r_store 49 = .ok (.bastore, 1) := by decide +kernel
theorem d_r_store_50 : decode b_r_store 50 = .ok (.return_, 1) := by decide +kernel
theorem d_r_hear_0 : decode b_r_hear 0 = .ok (.iload_n 1, 1) := by decide +kernel
theorem d_r_hear_1 : decode b_r_hear 1 = .ok (.bipush 16, 2) := by decide +kernel
theorem d_r_hear_3 : decode b_r_hear 3 = .ok (.imul, 1) := by decide +kernel
theorem d_r_hear_4 : decode b_r_hear 4 = .ok (.iload_n 2, 1) := by decide +kernel
theorem d_r_hear_5 : decode b_r_hear 5 = .ok (.iadd, 1) := by decide +kernel
theorem d_r_hear_6 : decode b_r_hear 6 = .ok (.istore_n 3, 1) := by decide +kernel
theorem d_r_hear_7 : decode b_r_hear 7 = .ok (.aload_n 0, 1) := by decide +kernel
theorem d_r_hear_8 : decode b_r_hear 8 = .ok (.getfield 24, 3) := by decide +kernel
theorem d_r_hear_11 : decode b_r_hear 11 = .ok (.iload_n 3, 1) := by decide +kernel
theorem d_r_hear_12 : decode b_r_hear 12 = .ok (.iaload, 1) := by decide +kernel
theorem d_r_hear_13 : decode b_r_hear 13 = .ok (.aload_n 0, 1) := by decide +kernel
theorem d_r_hear_14 : decode b_r_hear 14 = .ok (.getfield 87, 3) := by decide +kernel
theorem d_r_hear_17 : decode b_r_hear 17 = .ok (.if_icmp .le 33, 3) := by decide +kernel
theorem d_r_hear_20 : decode b_r_hear 20 = .ok (.aload_n 0, 1) := by decide +kernel
theorem d_r_hear_21 : decode b_r_hear 21 = .ok (.aload_n 0, 1) := by decide +kernel
theorem d_r_hear_22 : decode b_r_hear 22 = .ok (.getfield 24, 3) := by decide +kernel
theorem d_r_hear_25 : decode b_r_hear 25 = .ok (.iload_n 3, 1) := by decide +kernel
theorem d_r_hear_26 : decode b_r_hear 26 = .ok (.iaload, 1) := by decide +kernel
theorem d_r_hear_27 : decode b_r_hear 27 = .ok (.putfield 87, 3) := by decide +kernel
theorem d_r_hear_30 : decode b_r_hear 30 = .ok (.aload_n 0, 1) := by decide +kernel
theorem d_r_hear_31 : decode b_r_hear 31 = .ok (.aload_n 0, 1) := by decide +kernel
theorem d_r_hear_32 : decode b_r_hear 32 = .ok (.getfield 27, 3) := by decide +kernel
theorem d_r_hear_35 : decode b_r_hear 35 = .ok (.iload_n 3, 1) := by decide +kernel
theorem d_r_hear_36 : decode b_r_hear 36 = .ok (.iaload, 1) := by decide +kernel
theorem d_r_hear_37 : decode b_r_hear 37 = .ok (.putfield 90, 3) := by decide +kernel
theorem d_r_hear_40 : decode b_r_hear 40 = .ok (.aload_n 0, 1) := by decide +kernel
theorem d_r_hear_41 : decode b_r_hear 41 = .ok (.aload_n 0, 1) := by decide +kernel
theorem d_r_hear_42 : decode b_r_hear 42 = .ok (.getfield 30, 3) := by decide +kernel
theorem d_r_hear_45 : decode b_r_hear 45 = .ok (.iload_n 3, 1) := by decide +kernel
theorem d_r_hear_46 : decode b_r_hear 46 = .ok (.baload, 1) := by decide +kernel
theorem d_r_hear_47 : decode b_r_hear 47 = .ok (.putfield 93, 3) := by decide +kernel
theorem d_r_hear_50 : decode b_r_hear 50 = .ok (.return_, 1) := by decide +kernel
theorem d_r_erase_0 : decode b_r_erase 0 = .ok (.iload_n 1, 1) := by decide +kernel
theorem d_r_erase_1 : decode b_r_erase 1 = .ok (.bipush 16, 2) := by decide +kernel
theorem d_r_erase_3 : decode b_r_erase 3 = .ok (.imul, 1) := by decide +kernel
theorem d_r_erase_4 : decode b_r_erase 4 = .ok (.iload_n 2, 1) := by decide +kernel
theorem d_r_erase_5 : decode b_r_erase 5 = .ok (.iadd, 1) := by decide +kernel
theorem d_r_erase_6 : decode b_r_erase 6 = .ok (.istore_n 3, 1) := by decide +kernel
theorem d_r_erase_7 : decode b_r_erase 7 = .ok (.aload_n 0, 1) := by decide +kernel
theorem d_r_erase_8 : decode b_r_erase 8 = .ok (.getfield 24, 3) := by decide +kernel
theorem d_r_erase_11 : decode b_r_erase 11 = .ok (.iload_n 3, 1) := by decide +kernel
theorem d_r_erase_12 : decode b_r_erase 12 = .ok (.iconst 0, 1) := by decide +kernel
theorem d_r_erase_13 : decode b_r_erase 13 = .ok (.iastore, 1) := by decide +kernel
theorem d_r_erase_14 : decode b_r_erase 14 = .ok (.aload_n 0, 1) := by decide +kernel
theorem d_r_erase_15 : decode b_r_erase 15 = .ok (.getfield 27, 3) := by decide +kernel
theorem d_r_erase_18 : decode b_r_erase 18 = .ok (.iload_n 3, 1) := by decide +kernel
theorem d_r_erase_19 : decode b_r_erase 19 = .ok (.iconst 0, 1) := by decide +kernel
theorem d_r_erase_20 : decode b_r_erase 20 = .ok (.iastore, 1) := by decide +kernel
theorem d_r_erase_21 : decode b_r_erase 21 = .ok (.aload_n 0, 1) := by decide +kernel
theorem d_r_erase_22 : decode b_r_erase 22 = .ok (.getfield 30, 3) := by decide +kernel
theorem d_r_erase_25 : decode b_r_erase 25 = .ok (.iload_n 3, 1) := by decide +kernel
theorem d_r_erase_26 : decode b_r_erase 26 = .ok (.iconst 0, 1) := by decide +kernel
theorem d_r_erase_27 : decode b_r_erase 27 = .ok (.bastore, 1) := by decide +kernel
theorem d_r_erase_28 : decode b_r_erase 28 = .ok (.return_, 1) := by decide +kernel
theorem d_r_startWork_0 : decode b_r_startWork 0 = .ok (.aload_n 0, 1) := by decide +kernel
theorem d_r_startWork_1 : decode b_r_startWork 1 = .ok (.iconst 0, 1) := by decide +kernel
theorem d_r_startWork_2 : decode b_r_startWork 2 = .ok (.putfield 97, 3) := by decide +kernel
theorem d_r_startWork_5 : decode b_r_startWork 5 = .ok (.aload_n 0, 1) := by decide +kernel
theorem d_r_startWork_6 : decode b_r_startWork 6 = .ok (.iconst 0, 1) := by decide +kernel
theorem d_r_startWork_7 : decode b_r_startWork 7 = .ok (.putfield 87, 3) := by decide +kernel
theorem d_r_startWork_10 : decode b_r_startWork 10 = .ok (.aload_n 0, 1) := by decide +kernel
theorem d_r_startWork_11 : decode b_r_startWork 11 = .ok (.iconst 0, 1) := by decide +kernel
theorem d_r_startWork_12 : decode b_r_startWork 12 = .ok (.putfield 90, 3) := by decide +kernel
theorem d_r_startWork_15 : decode b_r_startWork 15 = .ok (.aload_n 0, 1) := by decide +kernel
theorem d_r_startWork_16 : decode b_r_startWork 16 = .ok (.iconst 0, 1) := by decide +kernel
theorem d_r_startWork_17 : decode b_r_startWork 17 = .ok (.putfield 93, 3) := by decide +kernel
theorem d_r_startWork_20 : decode b_r_startWork 20 = .ok (.return_, 1) := by decide +kernel
theorem d_r_hasAnswered_0 : decode b_r_hasAnswered 0 = .ok (.aload_n 0, 1) := by decide +kernel
theorem d_r_hasAnswered_1 : decode b_r_hasAnswered 1 = .ok (.getfield 97, 3) := by decide +kernel
theorem d_r_hasAnswered_4 : decode b_r_hasAnswered 4 = .ok (.iload_n 1, 1) := by decide +kernel
theorem d_r_hasAnswered_5 : decode b_r_hasAnswered 5 = .ok (.ishr, 1) := by decide +kernel
theorem d_r_hasAnswered_6 : decode b_r_hasAnswered 6 = .ok (.iconst 1, 1) := by decide +kernel
theorem d_r_hasAnswered_7 : decode b_r_hasAnswered 7 = .ok (.iand, 1) := by decide +kernel
theorem d_r_hasAnswered_8 : decode b_r_hasAnswered 8 = .ok (.ifCond .eq 7, 3) := by decide +kernel
theorem d_r_hasAnswered_11 : decode b_r_hasAnswered 11 = .ok (.iconst 1, 1) := by decide +kernel
theorem d_r_hasAnswered_12 : decode b_r_hasAnswered 12 = .ok (.goto 4, 3) := by decide +kernel
theorem d_r_hasAnswered_15 : decode b_r_hasAnswered 15 = .ok (.iconst 0, 1) := by decide +kernel
theorem d_r_hasAnswered_16 : decode b_r_hasAnswered 16 = .ok (.ireturn, 1) := by decide +kernel
theorem d_r_readNewest_0 : decode b_r_readNewest 0 = .ok (.aload_n 0, 1) := by decide +kernel
theorem d_r_readNewest_1 : decode b_r_readNewest 1 = .ok (.iload_n 2, 1) := by decide +kernel
theorem d_r_readNewest_2 : decode b_r_readNewest 2 = .ok (.invokevirtual 77, 3) := by decide +kernel
theorem d_r_readNewest_5 : decode b_r_readNewest 5 = .ok (.aload_n 0, 1) := by decide +kernel
theorem d_r_readNewest_6 : decode b_r_readNewest 6 = .ok (.invokevirtual 100, 3) := by decide +kernel
theorem d_r_readNewest_9 : decode b_r_readNewest 9 = .ok (.iconst 0, 1) := by decide +kernel
theorem d_r_readNewest_10 : decode b_r_readNewest 10 = .ok (.istore_n 3, 1) := by decide +kernel
theorem d_r_readNewest_11 : decode b_r_readNewest 11 = .ok (.iload_n 3, 1) := by decide +kernel
theorem d_r_readNewest_12 : decode b_r_readNewest 12 = .ok (.bipush 80, 2) := by decide +kernel
theorem d_r_readNewest_14 : decode b_r_readNewest 14 = .ok (.if_icmp .ge 102, 3) := by decide +kernel
theorem d_r_readNewest_17 : decode b_r_readNewest 17 = .ok (.aload_n 0, 1) := by decide +kernel
theorem d_r_readNewest_18 : decode b_r_readNewest 18 = .ok (.getfield 97, 3) := by decide +kernel
theorem d_r_readNewest_21 : decode b_r_readNewest 21 = .ok (.invokestatic 103, 3) := by decide +kernel
theorem d_r_readNewest_24 : decode b_r_readNewest 24 = .ok (.iconst 2, 1) := by decide +kernel
theorem d_r_readNewest_25 : decode b_r_readNewest 25 = .ok (.if_icmp .ge 91, 3) := by decide +kernel
theorem d_r_readNewest_28 : decode b_r_readNewest 28 = .ok (.iconst 0, 1) := by decide +kernel
theorem d_r_readNewest_29 : decode b_r_readNewest 29 = .ok (.istore 4, 2) := by decide +kernel
theorem d_r_readNewest_31 : decode b_r_readNewest 31 = .ok (.iload 4, 2) := by decide +kernel
theorem d_r_readNewest_33 : decode b_r_readNewest 33 = .ok (.iconst 3, 1) := by decide +kernel
theorem d_r_readNewest_34 : decode b_r_readNewest 34 = .ok (.if_icmp .ge 76, 3) := by decide +kernel
theorem d_r_readNewest_37 : decode b_r_readNewest 37 = .ok (.aload_n 0, 1) := by decide +kernel
theorem d_r_readNewest_38 : decode b_r_readNewest 38 = .ok (.getfield 43, 3) := by decide +kernel
theorem d_r_readNewest_41 : decode b_r_readNewest 41 = .ok (.iload 4, 2) := by decide +kernel
theorem d_r_readNewest_43 : decode b_r_readNewest 43 = .ok (.baload, 1) := by decide +kernel
theorem d_r_readNewest_44 : decode b_r_readNewest 44 = .ok (.istore 5, 2) := by decide +kernel
theorem d_r_readNewest_46 : decode b_r_readNewest 46 = .ok (.aload_n 0, 1) := by decide +kernel
theorem d_r_readNewest_47 : decode b_r_readNewest 47 = .ok (.iload 5, 2) := by decide +kernel
theorem d_r_readNewest_49 : decode b_r_readNewest 49 = .ok (.invokevirtual 106, 3) := by decide +kernel
theorem d_r_readNewest_52 : decode b_r_readNewest 52 = .ok (.ifCond .eq 52, 3) := by decide +kernel
theorem d_r_readNewest_55 : decode b_r_readNewest 55 = .ok (.aload_n 0, 1) := by decide +kernel
theorem d_r_readNewest_56 : decode b_r_readNewest 56 = .ok (.iload 4, 2) := by decide +kernel
theorem d_r_readNewest_58 : decode b_r_readNewest 58 = .ok (.invokevirtual 109, 3) := by decide +kernel
theorem d_r_readNewest_61 : decode b_r_readNewest 61 = .ok (.ifCond .ne 43, 3) := by decide +kernel
theorem d_r_readNewest_64 : decode b_r_readNewest 64 = .ok (.aload_n 0, 1) := by decide +kernel
theorem d_r_readNewest_65 : decode b_r_readNewest 65 = .ok (.iload_n 1, 1) := by decide +kernel
theorem d_r_readNewest_66 : decode b_r_readNewest 66 = .ok (.iload 5, 2) := by decide +kernel
theorem d_r_readNewest_68 : decode b_r_readNewest 68 = .ok (.invokevirtual 112, 3) := by decide +kernel
theorem d_r_readNewest_71 : decode b_r_readNewest 71 = .ok (.ifCond .eq 33, 3) := by decide +kernel
theorem d_r_readNewest_74 : decode b_r_readNewest 74 = .ok (.aload_n 0, 1) := by decide +kernel
theorem d_r_readNewest_75 : decode b_r_readNewest 75 = .ok (.iload 5, 2) := by decide +kernel
theorem d_r_readNewest_77 : decode b_r_readNewest 77 = .ok (.iload_n 1, 1) := by decide +kernel
theorem d_r_readNewest_78 : decode b_r_readNewest 78 = .ok (.invokevirtual 112, 3) := by decide +kernel
theorem d_r_readNewest_81 : decode b_r_readNewest 81 = .ok (.ifCond .eq 23, 3) := by decide +kernel
theorem d_r_readNewest_84 : decode b_r_readNewest 84 = .ok (.aload_n 0, 1) := by decide +kernel
theorem d_r_readNewest_85 : decode b_r_readNewest 85 = .ok (.dup, 1) := by decide +kernel
theorem d_r_readNewest_86 : decode b_r_readNewest 86 = .ok (.getfield 97, 3) := by decide +kernel
theorem d_r_readNewest_89 : decode b_r_readNewest 89 = .ok (.iconst 1, 1) := by decide +kernel
theorem d_r_readNewest_90 : decode b_r_readNewest 90 = .ok (.iload 4, 2) := by decide +kernel
theorem d_r_readNewest_92 : decode b_r_readNewest 92 = .ok (.ishl, 1) := by decide +kernel
theorem d_r_readNewest_93 : decode b_r_readNewest 93 = .ok (.ior, 1) := by decide +kernel
theorem d_r_readNewest_94 : decode b_r_readNewest 94 = .ok (.putfield 97, 3) := by decide +kernel
theorem d_r_readNewest_97 : decode b_r_readNewest 97 = .ok (.aload_n 0, 1) := by decide +kernel
theorem d_r_readNewest_98 : decode b_r_readNewest 98 = .ok (.iload 5, 2) := by decide +kernel
theorem d_r_readNewest_100 : decode b_r_readNewest 100 = .ok (.iload_n 2, 1) := by decide +kernel
theorem d_r_readNewest_101 : decode b_r_readNewest 101 = .ok (.invokevirtual 116, 3) := by decide +kernel
theorem d_r_readNewest_104 : decode b_r_readNewest 104 = .ok (.iinc 4 1, 3) := by decide +kernel
theorem d_r_readNewest_107 : decode b_r_readNewest 107 = .ok (.goto (-76), 3) := by decide +kernel
theorem d_r_readNewest_110 : decode b_r_readNewest 110 = .ok (.iinc 3 1, 3) := by decide +kernel
theorem d_r_readNewest_113 : decode b_r_readNewest 113 = .ok (.goto (-102), 3) := by decide +kernel
theorem d_r_readNewest_116 : decode b_r_readNewest 116 = .ok (.iconst 0, 1) := by decide +kernel
theorem d_r_readNewest_117 : decode b_r_readNewest 117 = .ok (.istore_n 3, 1) := by decide +kernel
theorem d_r_readNewest_118 : decode b_r_readNewest 118 = .ok (.iload_n 3, 1) := by decide +kernel
theorem d_r_readNewest_119 : decode b_r_readNewest 119 = .ok (.iconst 3, 1) := by decide +kernel
theorem d_r_readNewest_120 : decode b_r_readNewest 120 = .ok (.if_icmp .ge 61, 3) := by decide +kernel
theorem d_r_readNewest_123 : decode b_r_readNewest 123 = .ok (.aload_n 0, 1) := by decide +kernel
theorem d_r_readNewest_124 : decode b_r_readNewest 124 = .ok (.getfield 43, 3) := by decide +kernel
theorem d_r_readNewest_127 : decode b_r_readNewest 127 = .ok (.iload_n 3, 1) := by decide +kernel
theorem d_r_readNewest_128 : decode b_r_readNewest 128 = .ok (.baload, 1) := by decide +kernel
theorem d_r_readNewest_129 : decode b_r_readNewest 129 = .ok (.istore 4, 2) := by decide +kernel
theorem d_r_readNewest_131 : decode b_r_readNewest 131 = .ok (.aload_n 0, 1) := by decide +kernel
theorem d_r_readNewest_132 : decode b_r_readNewest 132 = .ok (.iload_n 3, 1) := by decide +kernel
theorem d_r_readNewest_133 : decode b_r_readNewest 133 = .ok (.invokevirtual 109, 3) := by decide +kernel
theorem d_r_readNewest_136 : decode b_r_readNewest 136 = .ok (.ifCond .eq 39, 3) := by decide +kernel
theorem d_r_readNewest_139 : decode b_r_readNewest 139 = .ok (.aload_n 0, 1) := by decide +kernel
theorem d_r_readNewest_140 : decode b_r_readNewest 140 = .ok (.getfield 24, 3) := by decide +kernel
theorem d_r_readNewest_143 : decode b_r_readNewest 143 = .ok (.iload 4, 2) := by decide +kernel
theorem d_r_readNewest_145 : decode b_r_readNewest 145 = .ok (.bipush 16, 2) := by decide +kernel
theorem d_r_readNewest_147 : decode b_r_readNewest 147 = .ok (.imul, 1) := by decide +kernel
theorem d_r_readNewest_148 : decode b_r_readNewest 148 = .ok (.iload_n 2, 1) := by decide +kernel
theorem d_r_readNewest_149 : decode b_r_readNewest 149 = .ok (.iadd, 1) := by decide +kernel
theorem d_r_readNewest_150 : decode b_r_readNewest 150 = .ok (.iaload, 1) := by decide +kernel
theorem d_r_readNewest_151 : decode b_r_readNewest 151 = .ok (.aload_n 0, 1) := by decide +kernel
theorem d_r_readNewest_152 : decode b_r_readNewest 152 = .ok (.getfield 87, 3) := by decide +kernel
theorem d_r_readNewest_155 : decode b_r_readNewest 155 = .ok (.if_icmp .ge 20, 3) := by decide +kernel
theorem d_r_readNewest_158 : decode b_r_readNewest 158 = .ok (.aload_n 0, 1) := by decide +kernel
theorem d_r_readNewest_159 : decode b_r_readNewest 159 = .ok (.iload_n 1, 1) := by decide +kernel
theorem d_r_readNewest_160 : decode b_r_readNewest 160 = .ok (.iload 4, 2) := by decide +kernel
theorem d_r_readNewest_162 : decode b_r_readNewest 162 = .ok (.invokevirtual 112, 3) := by decide +kernel
theorem d_r_readNewest_165 : decode b_r_readNewest 165 = .ok (.ifCond .eq 10, 3) := by decide +kernel
theorem d_r_readNewest_168 : decode b_r_readNewest 168 = .ok (.aload_n 0, 1) := by decide +kernel
theorem d_r_readNewest_169 : decode b_r_readNewest 169 = .ok (.iload 4, 2) := by decide +kernel
theorem d_r_readNewest_171 : decode b_r_readNewest 171 = .ok (.iload_n 2, 1) := by decide +kernel
theorem d_r_readNewest_172 : decode b_r_readNewest 172 = .ok (.invokevirtual 119, 3) := by decide +kernel
theorem d_r_readNewest_175 : decode b_r_readNewest 175 = .ok (.iinc 3 1, 3) := by decide +kernel
theorem d_r_readNewest_178 : decode b_r_readNewest 178 = .ok (.goto (-60), 3) := by decide +kernel
theorem d_r_readNewest_181 : decode b_r_readNewest 181 = .ok (.return_, 1) := by decide +kernel
theorem d_r_writeNewest_0 : decode b_r_writeNewest 0 = .ok (.aload_n 0, 1) := by decide +kernel
theorem d_r_writeNewest_1 : decode b_r_writeNewest 1 = .ok (.iconst 0, 1) := by decide +kernel
theorem d_r_writeNewest_2 : decode b_r_writeNewest 2 = .ok (.putfield 97, 3) := by decide +kernel
theorem d_r_writeNewest_5 : decode b_r_writeNewest 5 = .ok (.iconst 0, 1) := by decide +kernel
theorem d_r_writeNewest_6 : decode b_r_writeNewest 6 = .ok (.istore 4, 2) := by decide +kernel
theorem d_r_writeNewest_8 : decode b_r_writeNewest 8 = .ok (.iload 4, 2) := by decide +kernel
theorem d_r_writeNewest_10 : decode b_r_writeNewest 10 = .ok (.bipush 80, 2) := by decide +kernel
theorem d_r_writeNewest_12 : decode b_r_writeNewest 12 = .ok (.if_icmp .ge 106, 3) := by decide +kernel
theorem d_r_writeNewest_15 : decode b_r_writeNewest 15 = .ok (.aload_n 0, 1) := by decide +kernel
theorem d_r_writeNewest_16 : decode b_r_writeNewest 16 = .ok (.getfield 97, 3) := by decide +kernel
theorem d_r_writeNewest_19 : decode b_r_writeNewest 19 = .ok (.invokestatic 103, 3) := by decide +kernel
theorem d_r_writeNewest_22 : decode b_r_writeNewest 22 = .ok (.iload_n 3, 1) := by decide +kernel
theorem d_r_writeNewest_23 : decode b_r_writeNewest 23 = .ok (.if_icmp .ge 95, 3) := by decide +kernel
theorem d_r_writeNewest_26 : decode b_r_writeNewest 26 = .ok (.iconst 0, 1) := by decide +kernel
theorem d_r_writeNewest_27 : decode b_r_writeNewest 27 = .ok (.istore 5, 2) := by decide +kernel
theorem d_r_writeNewest_29 : decode b_r_writeNewest 29 = .ok (.iload 5, 2) := by decide +kernel
theorem d_r_writeNewest_31 : decode b_r_writeNewest 31 = .ok (.iconst 3, 1) := by decide +kernel
theorem d_r_writeNewest_32 : decode b_r_writeNewest 32 = .ok (.if_icmp .ge 80, 3) := by decide +kernel
theorem d_r_writeNewest_35 : decode b_r_writeNewest 35 = .ok (.aload_n 0, 1) := by decide +kernel
theorem d_r_writeNewest_36 : decode b_r_writeNewest 36 = .ok (.getfield 43, 3) := by decide +kernel
theorem d_r_writeNewest_39 : decode b_r_writeNewest 39 = .ok (.iload 5, 2) := by decide +kernel
theorem d_r_writeNewest_41 : decode b_r_writeNewest 41 = .ok (.baload, 1) := by decide +kernel
theorem d_r_writeNewest_42 : decode b_r_writeNewest 42 = .ok (.istore 6, 2) := by decide +kernel
theorem d_r_writeNewest_44 : decode b_r_writeNewest 44 = .ok (.aload_n 0, 1) := by decide +kernel
theorem d_r_writeNewest_45 : decode b_r_writeNewest 45 = .ok (.iload 6, 2) := by decide +kernel
theorem d_r_writeNewest_47 : decode b_r_writeNewest 47 = .ok (.invokevirtual 106, 3) := by decide +kernel
theorem d_r_writeNewest_50 : decode b_r_writeNewest 50 = .ok (.ifCond .eq 56, 3) := by decide +kernel
theorem d_r_writeNewest_53 : decode b_r_writeNewest 53 = .ok (.aload_n 0, 1) := by decide +kernel
theorem d_r_writeNewest_54 : decode b_r_writeNewest 54 = .ok (.iload 5, 2) := by decide +kernel
theorem d_r_writeNewest_56 : decode b_r_writeNewest 56 = .ok (.invokevirtual 109, 3) := by decide +kernel
theorem d_r_writeNewest_59 : decode b_r_writeNewest 59 = .ok (.ifCond .ne 47, 3) := by decide +kernel
theorem d_r_writeNewest_62 : decode b_r_writeNewest 62 = .ok (.aload_n 0, 1) := by decide +kernel
theorem d_r_writeNewest_63 : decode b_r_writeNewest 63 = .ok (.iload_n 1, 1) := by decide +kernel
theorem d_r_writeNewest_64 : decode b_r_writeNewest 64 = .ok (.iload 6, 2) := by decide +kernel
theorem d_r_writeNewest_66 : decode b_r_writeNewest 66 = .ok (.invokevirtual 112, 3) := by decide +kernel
theorem d_r_writeNewest_69 : decode b_r_writeNewest 69 = .ok (.ifCond .eq 37, 3) := by decide +kernel
theorem d_r_writeNewest_72 : decode b_r_writeNewest 72 = .ok (.aload_n 0, 1) := by decide +kernel
theorem d_r_writeNewest_73 : decode b_r_writeNewest 73 = .ok (.iload 6, 2) := by decide +kernel
theorem d_r_writeNewest_75 : decode b_r_writeNewest 75 = .ok (.iload_n 2, 1) := by decide +kernel
theorem d_r_writeNewest_76 : decode b_r_writeNewest 76 = .ok (.invokevirtual 119, 3) := by decide +kernel
theorem d_r_writeNewest_79 : decode b_r_writeNewest 79 = .ok (.aload_n 0, 1) := by decide +kernel
theorem d_r_writeNewest_80 : decode b_r_writeNewest 80 = .ok (.dup, 1) := by decide +kernel
theorem d_r_writeNewest_81 : decode b_r_writeNewest 81 = .ok (.getfield 97, 3) := by decide +kernel
theorem d_r_writeNewest_84 : decode b_r_writeNewest 84 = .ok (.aload_n 0, 1) := by decide +kernel
theorem d_r_writeNewest_85 : decode b_r_writeNewest 85 = .ok (.iload 6, 2) := by decide +kernel
theorem d_r_writeNewest_87 : decode b_r_writeNewest 87 = .ok (.iload_n 1, 1) := by decide +kernel
theorem d_r_writeNewest_88 : decode b_r_writeNewest 88 = .ok (.invokevirtual 112, 3) := by decide +kernel
theorem d_r_writeNewest_91 : decode b_r_writeNewest 91 = .ok (.ifCond .eq 10, 3) := by decide +kernel
theorem d_r_writeNewest_94 : decode b_r_writeNewest 94 = .ok (.iconst 1, 1) := by decide +kernel
theorem d_r_writeNewest_95 : decode b_r_writeNewest 95 = .ok (.iload 5, 2) := by decide +kernel
theorem d_r_writeNewest_97 : decode b_r_writeNewest 97 = .ok (.ishl, 1) := by decide +kernel
theorem d_r_writeNewest_98 : decode b_r_writeNewest 98 = .ok (.goto 4, 3) := by decide +kernel
theorem d_r_writeNewest_101 : decode b_r_writeNewest 101 = .ok (.iconst 0, 1) := by decide +kernel
theorem d_r_writeNewest_102 : decode b_r_writeNewest 102 = .ok (.ior, 1) := by decide +kernel
theorem d_r_writeNewest_103 : decode b_r_writeNewest 103 = .ok (.putfield 97, 3) := by decide +kernel
theorem d_r_writeNewest_106 : decode b_r_writeNewest 106 = .ok (.iinc 5 1, 3) := by decide +kernel
theorem d_r_writeNewest_109 : decode b_r_writeNewest 109 = .ok (.goto (-80), 3) := by decide +kernel
theorem d_r_writeNewest_112 : decode b_r_writeNewest 112 = .ok (.iinc 4 1, 3) := by decide +kernel
theorem d_r_writeNewest_115 : decode b_r_writeNewest 115 = .ok (.goto (-107), 3) := by decide +kernel
theorem d_r_writeNewest_118 : decode b_r_writeNewest 118 = .ok (.iconst 0, 1) := by decide +kernel
end
section
theorem d_r_writeNewest_119 : decode b_r_writeNewest 119 = .ok (.istore 4, 2) := by decide +kernel
theorem d_r_writeNewest_121 : decode b_r_writeNewest 121 = .ok (.iload 4, 2) := by decide +kernel
theorem d_r_writeNewest_123 : decode b_r_writeNewest 123 = .ok (.iconst 3, 1) := by decide +kernel
theorem d_r_writeNewest_124 : decode b_r_writeNewest 124 = .ok (.if_icmp .ge 36, 3) := by decide +kernel
theorem d_r_writeNewest_127 : decode b_r_writeNewest 127 = .ok (.aload_n 0, 1) := by decide +kernel
theorem d_r_writeNewest_128 : decode b_r_writeNewest 128 = .ok (.aload_n 0, 1) := by decide +kernel
theorem d_r_writeNewest_129 : decode b_r_writeNewest 129 = .ok (.getfield 43, 3) := by decide +kernel
theorem d_r_writeNewest_132 : decode b_r_writeNewest 132 = .ok (.iload 4, 2) := by decide +kernel
theorem d_r_writeNewest_134 : decode b_r_writeNewest 134 = .ok (.baload, 1) := by decide +kernel
theorem d_r_writeNewest_135 : decode b_r_writeNewest 135 = .ok (.invokevirtual 106, 3) := by decide +kernel
theorem d_r_writeNewest_138 : decode b_r_writeNewest 138 = .ok (.ifCond .ne 16, 3) := by decide +kernel
theorem d_r_writeNewest_141 : decode b_r_writeNewest 141 = .ok (.aload_n 0, 1) := by decide +kernel
theorem d_r_writeNewest_142 : decode b_r_writeNewest 142 = .ok (.iload_n 1, 1) := by decide +kernel
theorem d_r_writeNewest_143 : decode b_r_writeNewest 143 = .ok (.aload_n 0, 1) := by decide +kernel
theorem d_r_writeNewest_144 : decode b_r_writeNewest 144 = .ok (.getfield 43, 3) := by decide +kernel
theorem d_r_writeNewest_147 : decode b_r_writeNewest 147 = .ok (.iload 4, 2) := by decide +kernel
theorem d_r_writeNewest_149 : decode b_r_writeNewest 149 = .ok (.baload, 1) := by decide +kernel
theorem d_r_writeNewest_150 : decode b_r_writeNewest 150 = .ok (.iload_n 2, 1) := by decide +kernel
theorem d_r_writeNewest_151 : decode b_r_writeNewest 151 = .ok (.invokevirtual 122, 3) := by decide +kernel
theorem d_r_writeNewest_154 : decode b_r_writeNewest 154 = .ok (.iinc 4 1, 3) := by decide +kernel
theorem d_r_writeNewest_157 : decode b_r_writeNewest 157 = .ok (.goto (-36), 3) := by decide +kernel
theorem d_r_writeNewest_160 : decode b_r_writeNewest 160 = .ok (.return_, 1) := by decide +kernel
theorem d_r_hint_0 : decode b_r_hint 0 = .ok (.iload_n 1, 1) := by decide +kernel
theorem d_r_hint_1 : decode b_r_hint 1 = .ok (.bipush 6, 2) := by decide +kernel
theorem d_r_hint_3 : decode b_r_hint 3 = .ok (.imul, 1) := by decide +kernel
theorem d_r_hint_4 : decode b_r_hint 4 = .ok (.iload_n 2, 1) := by decide +kernel
theorem d_r_hint_5 : decode b_r_hint 5 = .ok (.iadd, 1) := by decide +kernel
theorem d_r_hint_6 : decode b_r_hint 6 = .ok (.bipush 16, 2) := by decide +kernel
theorem d_r_hint_8 : decode b_r_hint 8 = .ok (.imul, 1) := by decide +kernel
theorem d_r_hint_9 : decode b_r_hint 9 = .ok (.iload_n 3, 1) := by decide +kernel
theorem d_r_hint_10 : decode b_r_hint 10 = .ok (.iadd, 1) := by decide +kernel
theorem d_r_hint_11 : decode b_r_hint 11 = .ok (.istore 4, 2) := by decide +kernel
theorem d_r_hint_13 : decode b_r_hint 13 = .ok (.aload_n 0, 1) := by decide +kernel
theorem d_r_hint_14 : decode b_r_hint 14 = .ok (.getfield 87, 3) := by decide +kernel
theorem d_r_hint_17 : decode b_r_hint 17 = .ok (.aload_n 0, 1) := by decide +kernel
theorem d_r_hint_18 : decode b_r_hint 18 = .ok (.getfield 34, 3) := by decide +kernel
theorem d_r_hint_21 : decode b_r_hint 21 = .ok (.iload 4, 2) := by decide +kernel
theorem d_r_hint_23 : decode b_r_hint 23 = .ok (.iaload, 1) := by decide +kernel
theorem d_r_hint_24 : decode b_r_hint 24 = .ok (.if_icmp .le 36, 3) := by decide +kernel
theorem d_r_hint_27 : decode b_r_hint 27 = .ok (.aload_n 0, 1) := by decide +kernel
theorem d_r_hint_28 : decode b_r_hint 28 = .ok (.getfield 34, 3) := by decide +kernel
theorem d_r_hint_31 : decode b_r_hint 31 = .ok (.iload 4, 2) := by decide +kernel
theorem d_r_hint_33 : decode b_r_hint 33 = .ok (.aload_n 0, 1) := by decide +kernel
theorem d_r_hint_34 : decode b_r_hint 34 = .ok (.getfield 87, 3) := by decide +kernel
theorem d_r_hint_37 : decode b_r_hint 37 = .ok (.iastore, 1) := by decide +kernel
theorem d_r_hint_38 : decode b_r_hint 38 = .ok (.aload_n 0, 1) := by decide +kernel
theorem d_r_hint_39 : decode b_r_hint 39 = .ok (.getfield 37, 3) := by decide +kernel
theorem d_r_hint_42 : decode b_r_hint 42 = .ok (.iload 4, 2) := by decide +kernel
theorem d_r_hint_44 : decode b_r_hint 44 = .ok (.aload_n 0, 1) := by decide +kernel
theorem d_r_hint_45 : decode b_r_hint 45 = .ok (.getfield 90, 3) := by decide +kernel
theorem d_r_hint_48 : decode b_r_hint 48 = .ok (.iastore, 1) := by decide +kernel
theorem d_r_hint_49 : decode b_r_hint 49 = .ok (.aload_n 0, 1) := by decide +kernel
theorem d_r_hint_50 : decode b_r_hint 50 = .ok (.getfield 40, 3) := by decide +kernel
theorem d_r_hint_53 : decode b_r_hint 53 = .ok (.iload 4, 2) := by decide +kernel
theorem d_r_hint_55 : decode b_r_hint 55 = .ok (.aload_n 0, 1) := by decide +kernel
theorem d_r_hint_56 : decode b_r_hint 56 = .ok (.getfield 93, 3) := by decide +kernel
theorem d_r_hint_59 : decode b_r_hint 59 = .ok (.bastore, 1) := by decide +kernel
theorem d_r_hint_60 : decode b_r_hint 60 = .ok (.return_, 1) := by decide +kernel
theorem d_r_change_0 : decode b_r_change 0 = .ok (.aload_n 0, 1) := by decide +kernel
theorem d_r_change_1 : decode b_r_change 1 = .ok (.aload_n 0, 1) := by decide +kernel
theorem d_r_change_2 : decode b_r_change 2 = .ok (.getfield 87, 3) := by decide +kernel
theorem d_r_change_5 : decode b_r_change 5 = .ok (.bipush 8, 2) := by decide +kernel
theorem d_r_change_7 : decode b_r_change 7 = .ok (.idiv, 1) := by decide +kernel
theorem d_r_change_8 : decode b_r_change 8 = .ok (.iconst 1, 1) := by decide +kernel
theorem d_r_change_9 : decode b_r_change 9 = .ok (.iadd, 1) := by decide +kernel
theorem d_r_change_10 : decode b_r_change 10 = .ok (.bipush 8, 2) := by decide +kernel
theorem d_r_change_12 : decode b_r_change 12 = .ok (.imul, 1) := by decide +kernel
theorem d_r_change_13 : decode b_r_change 13 = .ok (.iload_n 1, 1) := by decide +kernel
theorem d_r_change_14 : decode b_r_change 14 = .ok (.iadd, 1) := by decide +kernel
theorem d_r_change_15 : decode b_r_change 15 = .ok (.putfield 87, 3) := by decide +kernel
theorem d_r_change_18 : decode b_r_change 18 = .ok (.aload_n 0, 1) := by decide +kernel
theorem d_r_change_19 : decode b_r_change 19 = .ok (.iload_n 3, 1) := by decide +kernel
theorem d_r_change_20 : decode b_r_change 20 = .ok (.putfield 90, 3) := by decide +kernel
theorem d_r_change_23 : decode b_r_change 23 = .ok (.aload_n 0, 1) := by decide +kernel
theorem d_r_change_24 : decode b_r_change 24 = .ok (.iload 4, 2) := by decide +kernel
theorem d_r_change_26 : decode b_r_change 26 = .ok (.putfield 93, 3) := by decide +kernel
theorem d_r_change_29 : decode b_r_change 29 = .ok (.aload_n 0, 1) := by decide +kernel
theorem d_r_change_30 : decode b_r_change 30 = .ok (.iload_n 1, 1) := by decide +kernel
theorem d_r_change_31 : decode b_r_change 31 = .ok (.iload_n 2, 1) := by decide +kernel
theorem d_r_change_32 : decode b_r_change 32 = .ok (.iconst 2, 1) := by decide +kernel
theorem d_r_change_33 : decode b_r_change 33 = .ok (.invokevirtual 126, 3) := by decide +kernel
theorem d_r_change_36 : decode b_r_change 36 = .ok (.return_, 1) := by decide +kernel
theorem d_r_readNumber_0 : decode b_r_readNumber 0 = .ok (.aload_n 0, 1) := by decide +kernel
theorem d_r_readNumber_1 : decode b_r_readNumber 1 = .ok (.getfield 87, 3) := by decide +kernel
theorem d_r_readNumber_4 : decode b_r_readNumber 4 = .ok (.ifCond .eq 10, 3) := by decide +kernel
theorem d_r_readNumber_7 : decode b_r_readNumber 7 = .ok (.aload_n 0, 1) := by decide +kernel
theorem d_r_readNumber_8 : decode b_r_readNumber 8 = .ok (.getfield 93, 3) := by decide +kernel
theorem d_r_readNumber_11 : decode b_r_readNumber 11 = .ok (.ifCond .eq 8, 3) := by decide +kernel
theorem d_r_readNumber_14 : decode b_r_readNumber 14 = .ok (.ldc 129, 2) := by decide +kernel
theorem d_r_readNumber_16 : decode b_r_readNumber 16 = .ok (.goto 7, 3) := by decide +kernel
theorem d_r_readNumber_19 : decode b_r_readNumber 19 = .ok (.aload_n 0, 1) := by decide +kernel
theorem d_r_readNumber_20 : decode b_r_readNumber 20 = .ok (.getfield 90, 3) := by decide +kernel
theorem d_r_readNumber_23 : decode b_r_readNumber 23 = .ok (.ireturn, 1) := by decide +kernel
theorem d_r_put_0 : decode b_r_put 0 = .ok (.iload_n 1, 1) := by decide +kernel
theorem d_r_put_1 : decode b_r_put 1 = .ok (.invokestatic 58, 3) := by decide +kernel
theorem d_r_put_4 : decode b_r_put 4 = .ok (.ifCond .eq 17, 3) := by decide +kernel
theorem d_r_put_7 : decode b_r_put 7 = .ok (.iload_n 2, 1) := by decide +kernel
theorem d_r_put_8 : decode b_r_put 8 = .ok (.invokestatic 130, 3) := by decide +kernel
theorem d_r_put_11 : decode b_r_put 11 = .ok (.ifCond .eq 10, 3) := by decide +kernel
theorem d_r_put_14 : decode b_r_put 14 = .ok (.iload_n 3, 1) := by decide +kernel
theorem d_r_put_15 : decode b_r_put 15 = .ok (.invokestatic 133, 3) := by decide +kernel
theorem d_r_put_18 : decode b_r_put 18 = .ok (.ifCond .ne 6, 3) := by decide +kernel
theorem d_r_put_21 : decode b_r_put 21 = .ok (.ldc 136, 2) := by decide +kernel
theorem d_r_put_23 : decode b_r_put 23 = .ok (.ireturn, 1) := by decide +kernel
theorem d_r_put_24 : decode b_r_put 24 = .ok (.aload_n 0, 1) := by decide +kernel
theorem d_r_put_25 : decode b_r_put 25 = .ok (.iload_n 1, 1) := by decide +kernel
theorem d_r_put_26 : decode b_r_put 26 = .ok (.invokevirtual 106, 3) := by decide +kernel
theorem d_r_put_29 : decode b_r_put 29 = .ok (.ifCond .ne 6, 3) := by decide +kernel
theorem d_r_put_32 : decode b_r_put 32 = .ok (.ldc 137, 2) := by decide +kernel
theorem d_r_put_34 : decode b_r_put 34 = .ok (.ireturn, 1) := by decide +kernel
theorem d_r_put_35 : decode b_r_put 35 = .ok (.aload_n 0, 1) := by decide +kernel
theorem d_r_put_36 : decode b_r_put 36 = .ok (.iload_n 1, 1) := by decide +kernel
theorem d_r_put_37 : decode b_r_put 37 = .ok (.iload_n 2, 1) := by decide +kernel
theorem d_r_put_38 : decode b_r_put 38 = .ok (.invokevirtual 138, 3) := by decide +kernel
theorem d_r_put_41 : decode b_r_put 41 = .ok (.aload_n 0, 1) := by decide +kernel
theorem d_r_put_42 : decode b_r_put 42 = .ok (.invokevirtual 141, 3) := by decide +kernel
theorem d_r_put_45 : decode b_r_put 45 = .ok (.istore 4, 2) := by decide +kernel
theorem d_r_put_47 : decode b_r_put 47 = .ok (.aload_n 0, 1) := by decide +kernel
theorem d_r_put_48 : decode b_r_put 48 = .ok (.iload_n 1, 1) := by decide +kernel
theorem d_r_put_49 : decode b_r_put 49 = .ok (.iload_n 2, 1) := by decide +kernel
theorem d_r_put_50 : decode b_r_put 50 = .ok (.iload_n 3, 1) := by decide +kernel
theorem d_r_put_51 : decode b_r_put 51 = .ok (.iconst 0, 1) := by decide +kernel
theorem d_r_put_52 : decode b_r_put 52 = .ok (.invokevirtual 145, 3) := by decide +kernel
theorem d_r_put_55 : decode b_r_put 55 = .ok (.iload 4, 2) := by decide +kernel
theorem d_r_put_57 : decode b_r_put 57 = .ok (.ireturn, 1) := by decide +kernel
theorem d_r_get_0 : decode b_r_get 0 = .ok (.iload_n 1, 1) := by decide +kernel
theorem d_r_get_1 : decode b_r_get 1 = .ok (.invokestatic 58, 3) := by decide +kernel
theorem d_r_get_4 : decode b_r_get 4 = .ok (.ifCond .eq 10, 3) := by decide +kernel
theorem d_r_get_7 : decode b_r_get 7 = .ok (.iload_n 2, 1) := by decide +kernel
theorem d_r_get_8 : decode b_r_get 8 = .ok (.invokestatic 130, 3) := by decide +kernel
theorem d_r_get_11 : decode b_r_get 11 = .ok (.ifCond .ne 6, 3) := by decide +kernel
theorem d_r_get_14 : decode b_r_get 14 = .ok (.ldc 136, 2) := by decide +kernel
theorem d_r_get_16 : decode b_r_get 16 = .ok (.ireturn, 1) := by decide +kernel
theorem d_r_get_17 : decode b_r_get 17 = .ok (.aload_n 0, 1) := by decide +kernel
theorem d_r_get_18 : decode b_r_get 18 = .ok (.iload_n 1, 1) := by decide +kernel
theorem d_r_get_19 : decode b_r_get 19 = .ok (.invokevirtual 106, 3) := by decide +kernel
theorem d_r_get_22 : decode b_r_get 22 = .ok (.ifCond .ne 6, 3) := by decide +kernel
theorem d_r_get_25 : decode b_r_get 25 = .ok (.ldc 137, 2) := by decide +kernel
theorem d_r_get_27 : decode b_r_get 27 = .ok (.ireturn, 1) := by decide +kernel
theorem d_r_get_28 : decode b_r_get 28 = .ok (.aload_n 0, 1) := by decide +kernel
theorem d_r_get_29 : decode b_r_get 29 = .ok (.iload_n 1, 1) := by decide +kernel
theorem d_r_get_30 : decode b_r_get 30 = .ok (.iload_n 2, 1) := by decide +kernel
theorem d_r_get_31 : decode b_r_get 31 = .ok (.invokevirtual 138, 3) := by decide +kernel
theorem d_r_get_34 : decode b_r_get 34 = .ok (.aload_n 0, 1) := by decide +kernel
theorem d_r_get_35 : decode b_r_get 35 = .ok (.invokevirtual 141, 3) := by decide +kernel
theorem d_r_get_38 : decode b_r_get 38 = .ok (.ireturn, 1) := by decide +kernel
theorem d_r_remove_0 : decode b_r_remove 0 = .ok (.iload_n 1, 1) := by decide +kernel
theorem d_r_remove_1 : decode b_r_remove 1 = .ok (.invokestatic 58, 3) := by decide +kernel
theorem d_r_remove_4 : decode b_r_remove 4 = .ok (.ifCond .eq 10, 3) := by decide +kernel
theorem d_r_remove_7 : decode b_r_remove 7 = .ok (.iload_n 2, 1) := by decide +kernel
theorem d_r_remove_8 : decode b_r_remove 8 = .ok (.invokestatic 130, 3) := by decide +kernel
theorem d_r_remove_11 : decode b_r_remove 11 = .ok (.ifCond .ne 6, 3) := by decide +kernel
theorem d_r_remove_14 : decode b_r_remove 14 = .ok (.ldc 136, 2) := by decide +kernel
theorem d_r_remove_16 : decode b_r_remove 16 = .ok (.ireturn, 1) := by decide +kernel
theorem d_r_remove_17 : decode b_r_remove 17 = .ok (.aload_n 0, 1) := by decide +kernel
theorem d_r_remove_18 : decode b_r_remove 18 = .ok (.iload_n 1, 1) := by decide +kernel
theorem d_r_remove_19 : decode b_r_remove 19 = .ok (.invokevirtual 106, 3) := by decide +kernel
theorem d_r_remove_22 : decode b_r_remove 22 = .ok (.ifCond .ne 6, 3) := by decide +kernel
theorem d_r_remove_25 : decode b_r_remove 25 = .ok (.ldc 137, 2) := by decide +kernel
theorem d_r_remove_27 : decode b_r_remove 27 = .ok (.ireturn, 1) := by decide +kernel
theorem d_r_remove_28 : decode b_r_remove 28 = .ok (.aload_n 0, 1) := by decide +kernel
theorem d_r_remove_29 : decode b_r_remove 29 = .ok (.iload_n 1, 1) := by decide +kernel
theorem d_r_remove_30 : decode b_r_remove 30 = .ok (.iload_n 2, 1) := by decide +kernel
theorem d_r_remove_31 : decode b_r_remove 31 = .ok (.invokevirtual 138, 3) := by decide +kernel
theorem d_r_remove_34 : decode b_r_remove 34 = .ok (.aload_n 0, 1) := by decide +kernel
theorem d_r_remove_35 : decode b_r_remove 35 = .ok (.invokevirtual 141, 3) := by decide +kernel
theorem d_r_remove_38 : decode b_r_remove 38 = .ok (.istore_n 3, 1) := by decide +kernel
theorem d_r_remove_39 : decode b_r_remove 39 = .ok (.aload_n 0, 1) := by decide +kernel
theorem d_r_remove_40 : decode b_r_remove 40 = .ok (.iload_n 1, 1) := by decide +kernel
theorem d_r_remove_41 : decode b_r_remove 41 = .ok (.iload_n 2, 1) := by decide +kernel
theorem d_r_remove_42 : decode b_r_remove 42 = .ok (.iconst 0, 1) := by decide +kernel
theorem d_r_remove_43 : decode b_r_remove 43 = .ok (.iconst 1, 1) := by decide +kernel
theorem d_r_remove_44 : decode b_r_remove 44 = .ok (.invokevirtual 145, 3) := by decide +kernel
theorem d_r_remove_47 : decode b_r_remove 47 = .ok (.iload_n 3, 1) := by decide +kernel
theorem d_r_remove_48 : decode b_r_remove 48 = .ok (.ireturn, 1) := by decide +kernel
theorem d_r_add_0 : decode b_r_add 0 = .ok (.iload_n 1, 1) := by decide +kernel
theorem d_r_add_1 : decode b_r_add 1 = .ok (.invokestatic 58, 3) := by decide +kernel
theorem d_r_add_4 : decode b_r_add 4 = .ok (.ifCond .eq 17, 3) := by decide +kernel
theorem d_r_add_7 : decode b_r_add 7 = .ok (.iload_n 2, 1) := by decide +kernel
theorem d_r_add_8 : decode b_r_add 8 = .ok (.invokestatic 130, 3) := by decide +kernel
theorem d_r_add_11 : decode b_r_add 11 = .ok (.ifCond .eq 10, 3) := by decide +kernel
theorem d_r_add_14 : decode b_r_add 14 = .ok (.iload_n 3, 1) := by decide +kernel
theorem d_r_add_15 : decode b_r_add 15 = .ok (.invokestatic 133, 3) := by decide +kernel
theorem d_r_add_18 : decode b_r_add 18 = .ok (.ifCond .ne 6, 3) := by decide +kernel
theorem d_r_add_21 : decode b_r_add 21 = .ok (.ldc 136, 2) := by decide +kernel
theorem d_r_add_23 : decode b_r_add 23 = .ok (.ireturn, 1) := by decide +kernel
theorem d_r_add_24 : decode b_r_add 24 = .ok (.aload_n 0, 1) := by decide +kernel
theorem d_r_add_25 : decode b_r_add 25 = .ok (.iload_n 1, 1) := by decide +kernel
theorem d_r_add_26 : decode b_r_add 26 = .ok (.invokevirtual 106, 3) := by decide +kernel
theorem d_r_add_29 : decode b_r_add 29 = .ok (.ifCond .ne 6, 3) := by decide +kernel
theorem d_r_add_32 : decode b_r_add 32 = .ok (.ldc 137, 2) := by decide +kernel
theorem d_r_add_34 : decode b_r_add 34 = .ok (.ireturn, 1) := by decide +kernel
theorem d_r_add_35 : decode b_r_add 35 = .ok (.aload_n 0, 1) := by decide +kernel
theorem d_r_add_36 : decode b_r_add 36 = .ok (.iload_n 1, 1) := by decide +kernel
theorem d_r_add_37 : decode b_r_add 37 = .ok (.iload_n 2, 1) := by decide +kernel
theorem d_r_add_38 : decode b_r_add 38 = .ok (.invokevirtual 138, 3) := by decide +kernel
theorem d_r_add_41 : decode b_r_add 41 = .ok (.aload_n 0, 1) := by decide +kernel
theorem d_r_add_42 : decode b_r_add 42 = .ok (.invokevirtual 141, 3) := by decide +kernel
theorem d_r_add_45 : decode b_r_add 45 = .ok (.istore 4, 2) := by decide +kernel
theorem d_r_add_47 : decode b_r_add 47 = .ok (.iload 4, 2) := by decide +kernel
theorem d_r_add_49 : decode b_r_add 49 = .ok (.ldc 129, 2) := by decide +kernel
theorem d_r_add_51 : decode b_r_add 51 = .ok (.if_icmp .ne 7, 3) := by decide +kernel
theorem d_r_add_54 : decode b_r_add 54 = .ok (.iload_n 3, 1) := by decide +kernel
theorem d_r_add_55 : decode b_r_add 55 = .ok (.goto 7, 3) := by decide +kernel
theorem d_r_add_58 : decode b_r_add 58 = .ok (.iload 4, 2) := by decide +kernel
theorem d_r_add_60 : decode b_r_add 60 = .ok (.iload_n 3, 1) := by decide +kernel
theorem d_r_add_61 : decode b_r_add 61 = .ok (.iadd, 1) := by decide +kernel
theorem d_r_add_62 : decode b_r_add 62 = .ok (.istore 5, 2) := by decide +kernel
theorem d_r_add_64 : decode b_r_add 64 = .ok (.iload 5, 2) := by decide +kernel
theorem d_r_add_66 : decode b_r_add 66 = .ok (.invokestatic 133, 3) := by decide +kernel
theorem d_r_add_69 : decode b_r_add 69 = .ok (.ifCond .ne 6, 3) := by decide +kernel
theorem d_r_add_72 : decode b_r_add 72 = .ok (.ldc 137, 2) := by decide +kernel
theorem d_r_add_74 : decode b_r_add 74 = .ok (.ireturn, 1) := by decide +kernel
theorem d_r_add_75 : decode b_r_add 75 = .ok (.aload_n 0, 1) := by decide +kernel
theorem d_r_add_76 : decode b_r_add 76 = .ok (.iload_n 1, 1) := by decide +kernel
theorem d_r_add_77 : decode b_r_add 77 = .ok (.iload_n 2, 1) := by decide +kernel
theorem d_r_add_78 : decode b_r_add 78 = .ok (.iload 5, 2) := by decide +kernel
theorem d_r_add_80 : decode b_r_add 80 = .ok (.iconst 0, 1) := by decide +kernel
theorem d_r_add_81 : decode b_r_add 81 = .ok (.invokevirtual 145, 3) := by decide +kernel
theorem d_r_add_84 : decode b_r_add 84 = .ok (.iload 5, 2) := by decide +kernel
theorem d_r_add_86 : decode b_r_add 86 = .ok (.ireturn, 1) := by decide +kernel
theorem d_r_sumOf_0 : decode b_r_sumOf 0 = .ok (.iload_n 0, 1) := by decide +kernel
theorem d_r_sumOf_1 : decode b_r_sumOf 1 = .ok (.bipush 31, 2) := by decide +kernel
theorem d_r_sumOf_3 : decode b_r_sumOf 3 = .ok (.imul, 1) := by decide +kernel
theorem d_r_sumOf_4 : decode b_r_sumOf 4 = .ok (.iload_n 1, 1) := by decide +kernel
theorem d_r_sumOf_5 : decode b_r_sumOf 5 = .ok (.iadd, 1) := by decide +kernel
theorem d_r_sumOf_6 : decode b_r_sumOf 6 = .ok (.istore_n 3, 1) := by decide +kernel
theorem d_r_sumOf_7 : decode b_r_sumOf 7 = .ok (.iload_n 3, 1) := by decide +kernel
theorem d_r_sumOf_8 : decode b_r_sumOf 8 = .ok (.bipush 31, 2) := by decide +kernel
theorem d_r_sumOf_10 : decode b_r_sumOf 10 = .ok (.imul, 1) := by decide +kernel
theorem d_r_sumOf_11 : decode b_r_sumOf 11 = .ok (.iload_n 2, 1) := by decide +kernel
theorem d_r_sumOf_12 : decode b_r_sumOf 12 = .ok (.ifCond .eq 8, 3) := by decide +kernel
theorem d_r_sumOf_15 : decode b_r_sumOf 15 = .ok (.bipush 7, 2) := by decide +kernel
theorem d_r_sumOf_17 : decode b_r_sumOf 17 = .ok (.goto 4, 3) := by decide +kernel
theorem d_r_sumOf_20 : decode b_r_sumOf 20 = .ok (.iconst 3, 1) := by decide +kernel
theorem d_r_sumOf_21 : decode b_r_sumOf 21 = .ok (.iadd, 1) := by decide +kernel
theorem d_r_sumOf_22 : decode b_r_sumOf 22 = .ok (.ireturn, 1) := by decide +kernel
theorem d_r_leaf_0 : decode b_r_leaf 0 = .ok (.iload_n 1, 1) := by decide +kernel
theorem d_r_leaf_1 : decode b_r_leaf 1 = .ok (.bipush 16, 2) := by decide +kernel
theorem d_r_leaf_3 : decode b_r_leaf 3 = .ok (.imul, 1) := by decide +kernel
theorem d_r_leaf_4 : decode b_r_leaf 4 = .ok (.iload_n 3, 1) := by decide +kernel
theorem d_r_leaf_5 : decode b_r_leaf 5 = .ok (.iadd, 1) := by decide +kernel
theorem d_r_leaf_6 : decode b_r_leaf 6 = .ok (.istore 4, 2) := by decide +kernel
theorem d_r_leaf_8 : decode b_r_leaf 8 = .ok (.aload_n 0, 1) := by decide +kernel
theorem d_r_leaf_9 : decode b_r_leaf 9 = .ok (.iload_n 1, 1) := by decide +kernel
theorem d_r_leaf_10 : decode b_r_leaf 10 = .ok (.iload_n 3, 1) := by decide +kernel
theorem d_r_leaf_11 : decode b_r_leaf 11 = .ok (.invokevirtual 149, 3) := by decide +kernel
theorem d_r_leaf_14 : decode b_r_leaf 14 = .ok (.ifCond .eq 16, 3) := by decide +kernel
theorem d_r_leaf_17 : decode b_r_leaf 17 = .ok (.aload_n 0, 1) := by decide +kernel
theorem d_r_leaf_18 : decode b_r_leaf 18 = .ok (.iload_n 2, 1) := by decide +kernel
theorem d_r_leaf_19 : decode b_r_leaf 19 = .ok (.iload_n 3, 1) := by decide +kernel
theorem d_r_leaf_20 : decode b_r_leaf 20 = .ok (.invokevirtual 149, 3) := by decide +kernel
theorem d_r_leaf_23 : decode b_r_leaf 23 = .ok (.ifCond .eq 7, 3) := by decide +kernel
theorem d_r_leaf_26 : decode b_r_leaf 26 = .ok (.iconst 1, 1) := by decide +kernel
theorem d_r_leaf_27 : decode b_r_leaf 27 = .ok (.goto 4, 3) := by decide +kernel
theorem d_r_leaf_30 : decode b_r_leaf 30 = .ok (.iconst 0, 1) := by decide +kernel
theorem d_r_leaf_31 : decode b_r_leaf 31 = .ok (.istore 5, 2) := by decide +kernel
theorem d_r_leaf_33 : decode b_r_leaf 33 = .ok (.iload 5, 2) := by decide +kernel
theorem d_r_leaf_35 : decode b_r_leaf 35 = .ok (.ifCond .eq 40, 3) := by decide +kernel
theorem d_r_leaf_38 : decode b_r_leaf 38 = .ok (.aload_n 0, 1) := by decide +kernel
theorem d_r_leaf_39 : decode b_r_leaf 39 = .ok (.getfield 24, 3) := by decide +kernel
theorem d_r_leaf_42 : decode b_r_leaf 42 = .ok (.iload 4, 2) := by decide +kernel
theorem d_r_leaf_44 : decode b_r_leaf 44 = .ok (.iaload, 1) := by decide +kernel
theorem d_r_leaf_45 : decode b_r_leaf 45 = .ok (.ifCond .le 30, 3) := by decide +kernel
theorem d_r_leaf_48 : decode b_r_leaf 48 = .ok (.aload_n 0, 1) := by decide +kernel
theorem d_r_leaf_49 : decode b_r_leaf 49 = .ok (.getfield 24, 3) := by decide +kernel
theorem d_r_leaf_52 : decode b_r_leaf 52 = .ok (.iload 4, 2) := by decide +kernel
theorem d_r_leaf_54 : decode b_r_leaf 54 = .ok (.iaload, 1) := by decide +kernel
theorem d_r_leaf_55 : decode b_r_leaf 55 = .ok (.aload_n 0, 1) := by decide +kernel
theorem d_r_leaf_56 : decode b_r_leaf 56 = .ok (.getfield 27, 3) := by decide +kernel
theorem d_r_leaf_59 : decode b_r_leaf 59 = .ok (.iload 4, 2) := by decide +kernel
theorem d_r_leaf_61 : decode b_r_leaf 61 = .ok (.iaload, 1) := by decide +kernel
theorem d_r_leaf_62 : decode b_r_leaf 62 = .ok (.aload_n 0, 1) := by decide +kernel
theorem d_r_leaf_63 : decode b_r_leaf 63 = .ok (.getfield 30, 3) := by decide +kernel
theorem d_r_leaf_66 : decode b_r_leaf 66 = .ok (.iload 4, 2) := by decide +kernel
theorem d_r_leaf_68 : decode b_r_leaf 68 = .ok (.baload, 1) := by decide +kernel
theorem d_r_leaf_69 : decode b_r_leaf 69 = .ok (.invokestatic 152, 3) := by decide +kernel
theorem d_r_leaf_72 : decode b_r_leaf 72 = .ok (.goto 4, 3) := by decide +kernel
theorem d_r_leaf_75 : decode b_r_leaf 75 = .ok (.iconst 0, 1) := by decide +kernel
theorem d_r_leaf_76 : decode b_r_leaf 76 = .ok (.ireturn, 1) := by decide +kernel
theorem d_r_growTrees_0 : decode b_r_growTrees 0 = .ok (.iconst 0, 1) := by decide +kernel
theorem d_r_growTrees_1 : decode b_r_growTrees 1 = .ok (.istore_n 3, 1) := by decide +kernel
theorem d_r_growTrees_2 : decode b_r_growTrees 2 = .ok (.iload_n 3, 1) := by decide +kernel
theorem d_r_growTrees_3 : decode b_r_growTrees 3 = .ok (.bipush 16, 2) := by decide +kernel
theorem d_r_growTrees_5 : decode b_r_growTrees 5 = .ok (.if_icmp .ge 41, 3) := by decide +kernel
theorem d_r_growTrees_8 : decode b_r_growTrees 8 = .ok (.aload_n 0, 1) := by decide +kernel
theorem d_r_growTrees_9 : decode b_r_growTrees 9 = .ok (.getfield 46, 3) := by decide +kernel
theorem d_r_growTrees_12 : decode b_r_growTrees 12 = .ok (.bipush 15, 2) := by decide +kernel
theorem d_r_growTrees_14 : decode b_r_growTrees 14 = .ok (.iload_n 3, 1) := by decide +kernel
theorem d_r_growTrees_15 : decode b_r_growTrees 15 = .ok (.iadd, 1) := by decide +kernel
theorem d_r_growTrees_16 : decode b_r_growTrees 16 = .ok (.aload_n 0, 1) := by decide +kernel
theorem d_r_growTrees_17 : decode b_r_growTrees 17 = .ok (.iload_n 1, 1) := by decide +kernel
theorem d_r_growTrees_18 : decode b_r_growTrees 18 = .ok (.iload_n 2, 1) := by decide +kernel
theorem d_r_growTrees_19 : decode b_r_growTrees 19 = .ok (.iload_n 3, 1) := by decide +kernel
theorem d_r_growTrees_20 : decode b_r_growTrees 20 = .ok (.invokevirtual 156, 3) := by decide +kernel
theorem d_r_growTrees_23 : decode b_r_growTrees 23 = .ok (.iastore, 1) := by decide +kernel
theorem d_r_growTrees_24 : decode b_r_growTrees 24 = .ok (.aload_n 0, 1) := by decide +kernel
theorem d_r_growTrees_25 : decode b_r_growTrees 25 = .ok (.getfield 49, 3) := by decide +kernel
theorem d_r_growTrees_28 : decode b_r_growTrees 28 = .ok (.bipush 15, 2) := by decide +kernel
theorem d_r_growTrees_30 : decode b_r_growTrees 30 = .ok (.iload_n 3, 1) := by decide +kernel
theorem d_r_growTrees_31 : decode b_r_growTrees 31 = .ok (.iadd, 1) := by decide +kernel
theorem d_r_growTrees_32 : decode b_r_growTrees 32 = .ok (.aload_n 0, 1) := by decide +kernel
theorem d_r_growTrees_33 : decode b_r_growTrees 33 = .ok (.iload_n 2, 1) := by decide +kernel
theorem d_r_growTrees_34 : decode b_r_growTrees 34 = .ok (.iload_n 1, 1) := by decide +kernel
theorem d_r_growTrees_35 : decode b_r_growTrees 35 = .ok (.iload_n 3, 1) := by decide +kernel
theorem d_r_growTrees_36 : decode b_r_growTrees 36 = .ok (.invokevirtual 156, 3) := by decide +kernel
theorem d_r_growTrees_39 : decode b_r_growTrees 39 = .ok (.iastore, 1) := by decide +kernel
theorem d_r_growTrees_40 : decode b_r_growTrees 40 = .ok (.iinc 3 1, 3) := by decide +kernel
theorem d_r_growTrees_43 : decode b_r_growTrees 43 = .ok (.goto (-41), 3) := by decide +kernel
theorem d_r_growTrees_46 : decode b_r_growTrees 46 = .ok (.bipush 14, 2) := by decide +kernel
theorem d_r_growTrees_48 : decode b_r_growTrees 48 = .ok (.istore_n 3, 1) := by decide +kernel
theorem d_r_growTrees_49 : decode b_r_growTrees 49 = .ok (.iload_n 3, 1) := by decide +kernel
theorem d_r_growTrees_50 : decode b_r_growTrees 50 = .ok (.ifCond .lt 69, 3) := by decide +kernel
theorem d_r_growTrees_53 : decode b_r_growTrees 53 = .ok (.aload_n 0, 1) := by decide +kernel
theorem d_r_growTrees_54 : decode b_r_growTrees 54 = .ok (.getfield 46, 3) := by decide +kernel
theorem d_r_growTrees_57 : decode b_r_growTrees 57 = .ok (.iload_n 3, 1) := by decide +kernel
theorem d_r_growTrees_58 : decode b_r_growTrees 58 = .ok (.aload_n 0, 1) := by decide +kernel
theorem d_r_growTrees_59 : decode b_r_growTrees 59 = .ok (.getfield 46, 3) := by decide +kernel
theorem d_r_growTrees_62 : decode b_r_growTrees 62 = .ok (.iconst 2, 1) := by decide +kernel
theorem d_r_growTrees_63 : decode b_r_growTrees 63 = .ok (.iload_n 3, 1) := by decide +kernel
theorem d_r_growTrees_64 : decode b_r_growTrees 64 = .ok (.imul, 1) := by decide +kernel
theorem d_r_growTrees_65 : decode b_r_growTrees 65 = .ok (.iconst 1, 1) := by decide +kernel
theorem d_r_growTrees_66 : decode b_r_growTrees 66 = .ok (.iadd, 1) := by decide +kernel
theorem d_r_growTrees_67 : decode b_r_growTrees 67 = .ok (.iaload, 1) := by decide +kernel
theorem d_r_growTrees_68 : decode b_r_growTrees 68 = .ok (.ldc 160, 2) := by decide +kernel
theorem d_r_growTrees_70 : decode b_r_growTrees 70 = .ok (.imul, 1) := by decide +kernel
theorem d_r_growTrees_71 : decode b_r_growTrees 71 = .ok (.aload_n 0, 1) := by decide +kernel
theorem d_r_growTrees_72 : decode b_r_growTrees 72 = .ok (.getfield 46, 3) := by decide +kernel
theorem d_r_growTrees_75 : decode b_r_growTrees 75 = .ok (.iconst 2, 1) := by decide +kernel
theorem d_r_growTrees_76 : decode b_r_growTrees 76 = .ok (.iload_n 3, 1) := by decide +kernel
theorem d_r_growTrees_77 : decode b_r_growTrees 77 = .ok (.imul, 1) := by decide +kernel
theorem d_r_growTrees_78 : decode b_r_growTrees 78 = .ok (.iconst 2, 1) := by decide +kernel
theorem d_r_growTrees_79 : decode b_r_growTrees 79 = .ok (.iadd, 1) := by decide +kernel
theorem d_r_growTrees_80 : decode b_r_growTrees 80 = .ok (.iaload, 1) := by decide +kernel
theorem d_r_growTrees_81 : decode b_r_growTrees 81 = .ok (.iadd, 1) := by decide +kernel
theorem d_r_growTrees_82 : decode b_r_growTrees 82 = .ok (.iastore, 1) := by decide +kernel
theorem d_r_growTrees_83 : decode b_r_growTrees 83 = .ok (.aload_n 0, 1) := by decide +kernel
theorem d_r_growTrees_84 : decode b_r_growTrees 84 = .ok (.getfield 49, 3) := by decide +kernel
theorem d_r_growTrees_87 : decode b_r_growTrees 87 = .ok (.iload_n 3, 1) := by decide +kernel
theorem d_r_growTrees_88 : decode b_r_growTrees 88 = .ok (.aload_n 0, 1) := by decide +kernel
theorem d_r_growTrees_89 : decode b_r_growTrees 89 = .ok (.getfield 49, 3) := by decide +kernel
theorem d_r_growTrees_92 : decode b_r_growTrees 92 = .ok (.iconst 2, 1) := by decide +kernel
theorem d_r_growTrees_93 : decode b_r_growTrees 93 = .ok (.iload_n 3, 1) := by decide +kernel
theorem d_r_growTrees_94 : decode b_r_growTrees 94 = .ok (.imul, 1) := by decide +kernel
theorem d_r_growTrees_95 : decode b_r_growTrees 95 = .ok (.iconst 1, 1) := by decide +kernel
theorem d_r_growTrees_96 : decode b_r_growTrees 96 = .ok (.iadd, 1) := by decide +kernel
theorem d_r_growTrees_97 : decode b_r_growTrees 97 = .ok (.iaload, 1) := by decide +kernel
theorem d_r_growTrees_98 : decode b_r_growTrees 98 = .ok (.ldc 160, 2) := by decide +kernel
theorem d_r_growTrees_100 : decode b_r_growTrees 100 = .ok (.imul, 1) := by decide +kernel
theorem d_r_growTrees_101 : decode b_r_growTrees 101 = .ok (.aload_n 0, 1) := by decide +kernel
theorem d_r_growTrees_102 : decode b_r_growTrees 102 = .ok (.getfield 49, 3) := by decide +kernel
theorem d_r_growTrees_105 : decode b_r_growTrees 105 = .ok (.iconst 2, 1) := by decide +kernel
theorem d_r_growTrees_106 : decode b_r_growTrees 106 = .ok (.iload_n 3, 1) := by decide +kernel
theorem d_r_growTrees_107 : decode b_r_growTrees 107 = .ok (.imul, 1) := by decide +kernel
theorem d_r_growTrees_108 : decode b_r_growTrees 108 = .ok (.iconst 2, 1) := by decide +kernel
theorem d_r_growTrees_109 : decode b_r_growTrees 109 = .ok (.iadd, 1) := by decide +kernel
theorem d_r_growTrees_110 : decode b_r_growTrees 110 = .ok (.iaload, 1) := by decide +kernel
theorem d_r_growTrees_111 : decode b_r_growTrees 111 = .ok (.iadd, 1) := by decide +kernel
theorem d_r_growTrees_112 : decode b_r_growTrees 112 = .ok (.iastore, 1) := by decide +kernel
theorem d_r_growTrees_113 : decode b_r_growTrees 113 = .ok (.iinc 3 (-1), 3) := by decide +kernel
theorem d_r_growTrees_116 : decode b_r_growTrees 116 = .ok (.goto (-67), 3) := by decide +kernel
theorem d_r_growTrees_119 : decode b_r_growTrees 119 = .ok (.return_, 1) := by decide +kernel
theorem d_r_compare_0 : decode b_r_compare 0 = .ok (.aload_n 0, 1) := by decide +kernel
theorem d_r_compare_1 : decode b_r_compare 1 = .ok (.iload_n 1, 1) := by decide +kernel
theorem d_r_compare_2 : decode b_r_compare 2 = .ok (.iload_n 2, 1) := by decide +kernel
theorem d_r_compare_3 : decode b_r_compare 3 = .ok (.invokevirtual 161, 3) := by decide +kernel
theorem d_r_compare_6 : decode b_r_compare 6 = .ok (.iconst 0, 1) := by decide +kernel
theorem d_r_compare_7 : decode b_r_compare 7 = .ok (.istore_n 3, 1) := by decide +kernel
theorem d_r_compare_8 : decode b_r_compare 8 = .ok (.iload_n 3, 1) := by decide +kernel
theorem d_r_compare_9 : decode b_r_compare 9 = .ok (.bipush 31, 2) := by decide +kernel
theorem d_r_compare_11 : decode b_r_compare 11 = .ok (.if_icmp .ge 89, 3) := by decide +kernel
theorem d_r_compare_14 : decode b_r_compare 14 = .ok (.iload_n 3, 1) := by decide +kernel
theorem d_r_compare_15 : decode b_r_compare 15 = .ok (.ifCond .eq 16, 3) := by decide +kernel
theorem d_r_compare_18 : decode b_r_compare 18 = .ok (.aload_n 0, 1) := by decide +kernel
theorem d_r_compare_19 : decode b_r_compare 19 = .ok (.getfield 52, 3) := by decide +kernel
theorem d_r_compare_22 : decode b_r_compare 22 = .ok (.iload_n 3, 1) := by decide +kernel
theorem d_r_compare_23 : decode b_r_compare 23 = .ok (.iconst 1, 1) := by decide +kernel
theorem d_r_compare_24 : decode b_r_compare 24 = .ok (.isub, 1) := by decide +kernel
theorem d_r_compare_25 : decode b_r_compare 25 = .ok (.iconst 2, 1) := by decide +kernel
theorem d_r_compare_26 : decode b_r_compare 26 = .ok (.idiv, 1) := by decide +kernel
theorem d_r_compare_27 : decode b_r_compare 27 = .ok (.baload, 1) := by decide +kernel
theorem d_r_compare_28 : decode b_r_compare 28 = .ok (.ifCond .eq 7, 3) := by decide +kernel
theorem d_r_compare_31 : decode b_r_compare 31 = .ok (.iconst 1, 1) := by decide +kernel
theorem d_r_compare_32 : decode b_r_compare 32 = .ok (.goto 4, 3) := by decide +kernel
theorem d_r_compare_35 : decode b_r_compare 35 = .ok (.iconst 0, 1) := by decide +kernel
theorem d_r_compare_36 : decode b_r_compare 36 = .ok (.istore 4, 2) := by decide +kernel
theorem d_r_compare_38 : decode b_r_compare 38 = .ok (.aload_n 0, 1) := by decide +kernel
theorem d_r_compare_39 : decode b_r_compare 39 = .ok (.getfield 52, 3) := by decide +kernel
theorem d_r_compare_42 : decode b_r_compare 42 = .ok (.iload_n 3, 1) := by decide +kernel
theorem d_r_compare_43 : decode b_r_compare 43 = .ok (.iload 4, 2) := by decide +kernel
theorem d_r_compare_45 : decode b_r_compare 45 = .ok (.ifCond .eq 22, 3) := by decide +kernel
theorem d_r_compare_48 : decode b_r_compare 48 = .ok (.aload_n 0, 1) := by decide +kernel
theorem d_r_compare_49 : decode b_r_compare 49 = .ok (.getfield 46, 3) := by decide +kernel
theorem d_r_compare_52 : decode b_r_compare 52 = .ok (.iload_n 3, 1) := by decide +kernel
theorem d_r_compare_53 : decode b_r_compare 53 = .ok (.iaload, 1) := by decide +kernel
theorem d_r_compare_54 : decode b_r_compare 54 = .ok (.aload_n 0, 1) := by decide +kernel
theorem d_r_compare_55 : decode b_r_compare 55 = .ok (.getfield 49, 3) := by decide +kernel
theorem d_r_compare_58 : decode b_r_compare 58 = .ok (.iload_n 3, 1) := by decide +kernel
theorem d_r_compare_59 : decode b_r_compare 59 = .ok (.iaload, 1) := by decide +kernel
theorem d_r_compare_60 : decode b_r_compare 60 = .ok (.if_icmp .eq 7, 3) := by decide +kernel
theorem d_r_compare_63 : decode b_r_compare 63 = .ok (.iconst 1, 1) := by decide +kernel
theorem d_r_compare_64 : decode b_r_compare 64 = .ok (.goto 4, 3) := by decide +kernel
theorem d_r_compare_67 : decode b_r_compare 67 = .ok (.iconst 0, 1) := by decide +kernel
theorem d_r_compare_68 : decode b_r_compare 68 = .ok (.bastore, 1) := by decide +kernel
theorem d_r_compare_69 : decode b_r_compare 69 = .ok (.aload_n 0, 1) := by decide +kernel
theorem d_r_compare_70 : decode b_r_compare 70 = .ok (.getfield 52, 3) := by decide +kernel
theorem d_r_compare_73 : decode b_r_compare 73 = .ok (.iload_n 3, 1) := by decide +kernel
theorem d_r_compare_74 : decode b_r_compare 74 = .ok (.baload, 1) := by decide +kernel
theorem d_r_compare_75 : decode b_r_compare 75 = .ok (.ifCond .eq 19, 3) := by decide +kernel
theorem d_r_compare_78 : decode b_r_compare 78 = .ok (.iload_n 3, 1) := by decide +kernel
theorem d_r_compare_79 : decode b_r_compare 79 = .ok (.bipush 15, 2) := by decide +kernel
theorem d_r_compare_81 : decode b_r_compare 81 = .ok (.if_icmp .lt 13, 3) := by decide +kernel
theorem d_r_compare_84 : decode b_r_compare 84 = .ok (.aload_n 0, 1) := by decide +kernel
theorem d_r_compare_85 : decode b_r_compare 85 = .ok (.iload_n 1, 1) := by decide +kernel
theorem d_r_compare_86 : decode b_r_compare 86 = .ok (.iload_n 2, 1) := by decide +kernel
theorem d_r_compare_87 : decode b_r_compare 87 = .ok (.iload_n 3, 1) := by decide +kernel
theorem d_r_compare_88 : decode b_r_compare 88 = .ok (.bipush 15, 2) := by decide +kernel
theorem d_r_compare_90 : decode b_r_compare 90 = .ok (.isub, 1) := by decide +kernel
theorem d_r_compare_91 : decode b_r_compare 91 = .ok (.invokevirtual 164, 3) := by decide +kernel
theorem d_r_compare_94 : decode b_r_compare 94 = .ok (.iinc 3 1, 3) := by decide +kernel
theorem d_r_compare_97 : decode b_r_compare 97 = .ok (.goto (-89), 3) := by decide +kernel
theorem d_r_compare_100 : decode b_r_compare 100 = .ok (.iconst 0, 1) := by decide +kernel
theorem d_r_compare_101 : decode b_r_compare 101 = .ok (.istore_n 3, 1) := by decide +kernel
theorem d_r_compare_102 : decode b_r_compare 102 = .ok (.iload_n 3, 1) := by decide +kernel
theorem d_r_compare_103 : decode b_r_compare 103 = .ok (.bipush 16, 2) := by decide +kernel
theorem d_r_compare_105 : decode b_r_compare 105 = .ok (.if_icmp .ge 71, 3) := by decide +kernel
theorem d_r_compare_108 : decode b_r_compare 108 = .ok (.aload_n 0, 1) := by decide +kernel
theorem d_r_compare_109 : decode b_r_compare 109 = .ok (.iload_n 1, 1) := by decide +kernel
theorem d_r_compare_110 : decode b_r_compare 110 = .ok (.iload_n 3, 1) := by decide +kernel
theorem d_r_compare_111 : decode b_r_compare 111 = .ok (.invokevirtual 149, 3) := by decide +kernel
theorem d_r_compare_114 : decode b_r_compare 114 = .ok (.ifCond .eq 16, 3) := by decide +kernel
theorem d_r_compare_117 : decode b_r_compare 117 = .ok (.aload_n 0, 1) := by decide +kernel
theorem d_r_compare_118 : decode b_r_compare 118 = .ok (.iload_n 2, 1) := by decide +kernel
theorem d_r_compare_119 : decode b_r_compare 119 = .ok (.iload_n 3, 1) := by decide +kernel
theorem d_r_compare_120 : decode b_r_compare 120 = .ok (.invokevirtual 149, 3) := by decide +kernel
theorem d_r_compare_123 : decode b_r_compare 123 = .ok (.ifCond .eq 7, 3) := by decide +kernel
theorem d_r_compare_126 : decode b_r_compare 126 = .ok (.iconst 1, 1) := by decide +kernel
theorem d_r_compare_127 : decode b_r_compare 127 = .ok (.goto 4, 3) := by decide +kernel
theorem d_r_compare_130 : decode b_r_compare 130 = .ok (.iconst 0, 1) := by decide +kernel
theorem d_r_compare_131 : decode b_r_compare 131 = .ok (.istore 4, 2) := by decide +kernel
theorem d_r_compare_133 : decode b_r_compare 133 = .ok (.iload 4, 2) := by decide +kernel
theorem d_r_compare_135 : decode b_r_compare 135 = .ok (.ifCond .eq 35, 3) := by decide +kernel
theorem d_r_compare_138 : decode b_r_compare 138 = .ok (.aload_n 0, 1) := by decide +kernel
theorem d_r_compare_139 : decode b_r_compare 139 = .ok (.getfield 24, 3) := by decide +kernel
theorem d_r_compare_142 : decode b_r_compare 142 = .ok (.iload_n 1, 1) := by decide +kernel
theorem d_r_compare_143 : decode b_r_compare 143 = .ok (.bipush 16, 2) := by decide +kernel
theorem d_r_compare_145 : decode b_r_compare 145 = .ok (.imul, 1) := by decide +kernel
theorem d_r_compare_146 : decode b_r_compare 146 = .ok (.iload_n 3, 1) := by decide +kernel
theorem d_r_compare_147 : decode b_r_compare 147 = .ok (.iadd, 1) := by decide +kernel
theorem d_r_compare_148 : decode b_r_compare 148 = .ok (.iaload, 1) := by decide +kernel
theorem d_r_compare_149 : decode b_r_compare 149 = .ok (.aload_n 0, 1) := by decide +kernel
theorem d_r_compare_150 : decode b_r_compare 150 = .ok (.getfield 24, 3) := by decide +kernel
theorem d_r_compare_153 : decode b_r_compare 153 = .ok (.iload_n 2, 1) := by decide +kernel
theorem d_r_compare_154 : decode b_r_compare 154 = .ok (.bipush 16, 2) := by decide +kernel
theorem d_r_compare_156 : decode b_r_compare 156 = .ok (.imul, 1) := by decide +kernel
theorem d_r_compare_157 : decode b_r_compare 157 = .ok (.iload_n 3, 1) := by decide +kernel
theorem d_r_compare_158 : decode b_r_compare 158 = .ok (.iadd, 1) := by decide +kernel
theorem d_r_compare_159 : decode b_r_compare 159 = .ok (.iaload, 1) := by decide +kernel
theorem d_r_compare_160 : decode b_r_compare 160 = .ok (.if_icmp .eq 10, 3) := by decide +kernel
theorem d_r_compare_163 : decode b_r_compare 163 = .ok (.aload_n 0, 1) := by decide +kernel
theorem d_r_compare_164 : decode b_r_compare 164 = .ok (.iload_n 1, 1) := by decide +kernel
theorem d_r_compare_165 : decode b_r_compare 165 = .ok (.iload_n 2, 1) := by decide +kernel
theorem d_r_compare_166 : decode b_r_compare 166 = .ok (.iload_n 3, 1) := by decide +kernel
theorem d_r_compare_167 : decode b_r_compare 167 = .ok (.invokevirtual 164, 3) := by decide +kernel
theorem d_r_compare_170 : decode b_r_compare 170 = .ok (.iinc 3 1, 3) := by decide +kernel
theorem d_r_compare_173 : decode b_r_compare 173 = .ok (.goto (-71), 3) := by decide +kernel
theorem d_r_compare_176 : decode b_r_compare 176 = .ok (.return_, 1) := by decide +kernel
theorem d_r_exchange_0 : decode b_r_exchange 0 = .ok (.iconst 0, 1) := by decide +kernel
theorem d_r_exchange_1 : decode b_r_exchange 1 = .ok (.istore 4, 2) := by decide +kernel
theorem d_r_exchange_3 : decode b_r_exchange 3 = .ok (.iconst 0, 1) := by decide +kernel
theorem d_r_exchange_4 : decode b_r_exchange 4 = .ok (.istore 5, 2) := by decide +kernel
theorem d_r_exchange_6 : decode b_r_exchange 6 = .ok (.iconst 0, 1) := by decide +kernel
theorem d_r_exchange_7 : decode b_r_exchange 7 = .ok (.istore 6, 2) := by decide +kernel
theorem d_r_exchange_9 : decode b_r_exchange 9 = .ok (.iload 6, 2) := by decide +kernel
theorem d_r_exchange_11 : decode b_r_exchange 11 = .ok (.bipush 80, 2) := by decide +kernel
theorem d_r_exchange_13 : decode b_r_exchange 13 = .ok (.if_icmp .ge 85, 3) := by decide +kernel
theorem d_r_exchange_16 : decode b_r_exchange 16 = .ok (.iload 4, 2) := by decide +kernel
theorem d_r_exchange_18 : decode b_r_exchange 18 = .ok (.ifCond .eq 8, 3) := by decide +kernel
theorem d_r_exchange_21 : decode b_r_exchange 21 = .ok (.iload 5, 2) := by decide +kernel
theorem d_r_exchange_23 : decode b_r_exchange 23 = .ok (.ifCond .ne 75, 3) := by decide +kernel
theorem d_r_exchange_26 : decode b_r_exchange 26 = .ok (.iload 4, 2) := by decide +kernel
theorem d_r_exchange_28 : decode b_r_exchange 28 = .ok (.ifCond .ne 31, 3) := by decide +kernel
theorem d_r_exchange_31 : decode b_r_exchange 31 = .ok (.aload_n 0, 1) := by decide +kernel
theorem d_r_exchange_32 : decode b_r_exchange 32 = .ok (.iload_n 1, 1) := by decide +kernel
theorem d_r_exchange_33 : decode b_r_exchange 33 = .ok (.iload_n 2, 1) := by decide +kernel
theorem d_r_exchange_34 : decode b_r_exchange 34 = .ok (.invokevirtual 112, 3) := by decide +kernel
theorem d_r_exchange_37 : decode b_r_exchange 37 = .ok (.ifCond .eq 22, 3) := by decide +kernel
theorem d_r_exchange_40 : decode b_r_exchange 40 = .ok (.aload_n 0, 1) := by decide +kernel
theorem d_r_exchange_41 : decode b_r_exchange 41 = .ok (.invokevirtual 100, 3) := by decide +kernel
theorem d_r_exchange_44 : decode b_r_exchange 44 = .ok (.aload_n 0, 1) := by decide +kernel
theorem d_r_exchange_45 : decode b_r_exchange 45 = .ok (.iload_n 1, 1) := by decide +kernel
theorem d_r_exchange_46 : decode b_r_exchange 46 = .ok (.iload_n 3, 1) := by decide +kernel
theorem d_r_exchange_47 : decode b_r_exchange 47 = .ok (.invokevirtual 116, 3) := by decide +kernel
theorem d_r_exchange_50 : decode b_r_exchange 50 = .ok (.aload_n 0, 1) := by decide +kernel
theorem d_r_exchange_51 : decode b_r_exchange 51 = .ok (.iload_n 2, 1) := by decide +kernel
theorem d_r_exchange_52 : decode b_r_exchange 52 = .ok (.iload_n 3, 1) := by decide +kernel
theorem d_r_exchange_53 : decode b_r_exchange 53 = .ok (.invokevirtual 119, 3) := by decide +kernel
theorem d_r_exchange_56 : decode b_r_exchange 56 = .ok (.iconst 1, 1) := by decide +kernel
theorem d_r_exchange_57 : decode b_r_exchange 57 = .ok (.istore 4, 2) := by decide +kernel
theorem d_r_exchange_59 : decode b_r_exchange 59 = .ok (.iload 5, 2) := by decide +kernel
theorem d_r_exchange_61 : decode b_r_exchange 61 = .ok (.ifCond .ne 31, 3) := by decide +kernel
theorem d_r_exchange_64 : decode b_r_exchange 64 = .ok (.aload_n 0, 1) := by decide +kernel
theorem d_r_exchange_65 : decode b_r_exchange 65 = .ok (.iload_n 2, 1) := by decide +kernel
theorem d_r_exchange_66 : decode b_r_exchange 66 = .ok (.iload_n 1, 1) := by decide +kernel
theorem d_r_exchange_67 : decode b_r_exchange 67 = .ok (.invokevirtual 112, 3) := by decide +kernel
theorem d_r_exchange_70 : decode b_r_exchange 70 = .ok (.ifCond .eq 22, 3) := by decide +kernel
theorem d_r_exchange_73 : decode b_r_exchange 73 = .ok (.aload_n 0, 1) := by decide +kernel
theorem d_r_exchange_74 : decode b_r_exchange 74 = .ok (.invokevirtual 100, 3) := by decide +kernel
theorem d_r_exchange_77 : decode b_r_exchange 77 = .ok (.aload_n 0, 1) := by decide +kernel
theorem d_r_exchange_78 : decode b_r_exchange 78 = .ok (.iload_n 2, 1) := by decide +kernel
theorem d_r_exchange_79 : decode b_r_exchange 79 = .ok (.iload_n 3, 1) := by decide +kernel
theorem d_r_exchange_80 : decode b_r_exchange 80 = .ok (.invokevirtual 116, 3) := by decide +kernel
theorem d_r_exchange_83 : decode b_r_exchange 83 = .ok (.aload_n 0, 1) := by decide +kernel
theorem d_r_exchange_84 : decode b_r_exchange 84 = .ok (.iload_n 1, 1) := by decide +kernel
theorem d_r_exchange_85 : decode b_r_exchange 85 = .ok (.iload_n 3, 1) := by decide +kernel
theorem d_r_exchange_86 : decode b_r_exchange 86 = .ok (.invokevirtual 119, 3) := by decide +kernel
theorem d_r_exchange_89 : decode b_r_exchange 89 = .ok (.iconst 1, 1) := by decide +kernel
theorem d_r_exchange_90 : decode b_r_exchange 90 = .ok (.istore 5, 2) := by decide +kernel
theorem d_r_exchange_92 : decode b_r_exchange 92 = .ok (.iinc 6 1, 3) := by decide +kernel
theorem d_r_exchange_95 : decode b_r_exchange 95 = .ok (.goto (-86), 3) := by decide +kernel
theorem d_r_exchange_98 : decode b_r_exchange 98 = .ok (.return_, 1) := by decide +kernel
theorem d_r_compareAll_0 : decode b_r_compareAll 0 = .ok (.iconst 0, 1) := by decide +kernel
theorem d_r_compareAll_1 : decode b_r_compareAll 1 = .ok (.istore_n 1, 1) := by decide +kernel
theorem d_r_compareAll_2 : decode b_r_compareAll 2 = .ok (.iload_n 1, 1) := by decide +kernel
theorem d_r_compareAll_3 : decode b_r_compareAll 3 = .ok (.bipush 6, 2) := by decide +kernel
theorem d_r_compareAll_5 : decode b_r_compareAll 5 = .ok (.if_icmp .ge 47, 3) := by decide +kernel
theorem d_r_compareAll_8 : decode b_r_compareAll 8 = .ok (.iload_n 1, 1) := by decide +kernel
theorem d_r_compareAll_9 : decode b_r_compareAll 9 = .ok (.iconst 1, 1) := by decide +kernel
theorem d_r_compareAll_10 : decode b_r_compareAll 10 = .ok (.iadd, 1) := by decide +kernel
theorem d_r_compareAll_11 : decode b_r_compareAll 11 = .ok (.istore_n 2, 1) := by decide +kernel
theorem d_r_compareAll_12 : decode b_r_compareAll 12 = .ok (.iload_n 2, 1) := by decide +kernel
theorem d_r_compareAll_13 : decode b_r_compareAll 13 = .ok (.bipush 6, 2) := by decide +kernel
theorem d_r_compareAll_15 : decode b_r_compareAll 15 = .ok (.if_icmp .ge 31, 3) := by decide +kernel
theorem d_r_compareAll_18 : decode b_r_compareAll 18 = .ok (.aload_n 0, 1) := by decide +kernel
theorem d_r_compareAll_19 : decode b_r_compareAll 19 = .ok (.iload_n 1, 1) := by decide +kernel
theorem d_r_compareAll_20 : decode b_r_compareAll 20 = .ok (.invokevirtual 106, 3) := by decide +kernel
theorem d_r_compareAll_23 : decode b_r_compareAll 23 = .ok (.ifCond .eq 17, 3) := by decide +kernel
theorem d_r_compareAll_26 : decode b_r_compareAll 26 = .ok (.aload_n 0, 1) := by decide +kernel
theorem d_r_compareAll_27 : decode b_r_compareAll 27 = .ok (.iload_n 2, 1) := by decide +kernel
theorem d_r_compareAll_28 : decode b_r_compareAll 28 = .ok (.invokevirtual 106, 3) := by decide +kernel
theorem d_r_compareAll_31 : decode b_r_compareAll 31 = .ok (.ifCond .eq 9, 3) := by decide +kernel
theorem d_r_compareAll_34 : decode b_r_compareAll 34 = .ok (.aload_n 0, 1) := by decide +kernel
theorem d_r_compareAll_35 : decode b_r_compareAll 35 = .ok (.iload_n 1, 1) := by decide +kernel
theorem d_r_compareAll_36 : decode b_r_compareAll 36 = .ok (.iload_n 2, 1) := by decide +kernel
theorem d_r_compareAll_37 : decode b_r_compareAll 37 = .ok (.invokevirtual 167, 3) := by decide +kernel
theorem d_r_compareAll_40 : decode b_r_compareAll 40 = .ok (.iinc 2 1, 3) := by decide +kernel
theorem d_r_compareAll_43 : decode b_r_compareAll 43 = .ok (.goto (-31), 3) := by decide +kernel
theorem d_r_compareAll_46 : decode b_r_compareAll 46 = .ok (.iinc 1 1, 3) := by decide +kernel
theorem d_r_compareAll_49 : decode b_r_compareAll 49 = .ok (.goto (-47), 3) := by decide +kernel
theorem d_r_compareAll_52 : decode b_r_compareAll 52 = .ok (.return_, 1) := by decide +kernel
theorem d_r_down_0 : decode b_r_down 0 = .ok (.aload_n 0, 1) := by decide +kernel
theorem d_r_down_1 : decode b_r_down 1 = .ok (.iload_n 1, 1) := by decide +kernel
theorem d_r_down_2 : decode b_r_down 2 = .ok (.invokevirtual 106, 3) := by decide +kernel
theorem d_r_down_5 : decode b_r_down 5 = .ok (.ifCond .eq 14, 3) := by decide +kernel
theorem d_r_down_8 : decode b_r_down 8 = .ok (.aload_n 0, 1) := by decide +kernel
theorem d_r_down_9 : decode b_r_down 9 = .ok (.getfield 13, 3) := by decide +kernel
theorem d_r_down_12 : decode b_r_down 12 = .ok (.aload_n 0, 1) := by decide +kernel
theorem d_r_down_13 : decode b_r_down 13 = .ok (.getfield 7, 3) := by decide +kernel
theorem d_r_down_16 : decode b_r_down 16 = .ok (.if_icmp .eq 5, 3) := by decide +kernel
theorem d_r_down_19 : decode b_r_down 19 = .ok (.iconst 0, 1) := by decide +kernel
theorem d_r_down_20 : decode b_r_down 20 = .ok (.ireturn, 1) := by decide +kernel
theorem d_r_down_21 : decode b_r_down 21 = .ok (.aload_n 0, 1) := by decide +kernel
theorem d_r_down_22 : decode b_r_down 22 = .ok (.dup, 1) := by decide +kernel
theorem d_r_down_23 : decode b_r_down 23 = .ok (.getfield 13, 3) := by decide +kernel
theorem d_r_down_26 : decode b_r_down 26 = .ok (.iconst 1, 1) := by decide +kernel
theorem d_r_down_27 : decode b_r_down 27 = .ok (.iload_n 1, 1) := by decide +kernel
theorem d_r_down_28 : decode b_r_down 28 = .ok (.ishl, 1) := by decide +kernel
theorem d_r_down_29 : decode b_r_down 29 = .ok (.iconst (-1), 1) := by decide +kernel
theorem d_r_down_30 : decode b_r_down 30 = .ok (.ixor, 1) := by decide +kernel
theorem d_r_down_31 : decode b_r_down 31 = .ok (.iand, 1) := by decide +kernel
theorem d_r_down_32 : decode b_r_down 32 = .ok (.putfield 13, 3) := by decide +kernel
theorem d_r_down_35 : decode b_r_down 35 = .ok (.iconst 1, 1) := by decide +kernel
theorem d_r_down_36 : decode b_r_down 36 = .ok (.ireturn, 1) := by decide +kernel
theorem d_r_up_0 : decode b_r_up 0 = .ok (.aload_n 0, 1) := by decide +kernel
theorem d_r_up_1 : decode b_r_up 1 = .ok (.iload_n 1, 1) := by decide +kernel
theorem d_r_up_2 : decode b_r_up 2 = .ok (.invokevirtual 66, 3) := by decide +kernel
theorem d_r_up_5 : decode b_r_up 5 = .ok (.ifCond .eq 11, 3) := by decide +kernel
theorem d_r_up_8 : decode b_r_up 8 = .ok (.aload_n 0, 1) := by decide +kernel
theorem d_r_up_9 : decode b_r_up 9 = .ok (.iload_n 1, 1) := by decide +kernel
theorem d_r_up_10 : decode b_r_up 10 = .ok (.invokevirtual 106, 3) := by decide +kernel
theorem d_r_up_13 : decode b_r_up 13 = .ok (.ifCond .eq 5, 3) := by decide +kernel
theorem d_r_up_16 : decode b_r_up 16 = .ok (.iconst 0, 1) := by decide +kernel
theorem d_r_up_17 : decode b_r_up 17 = .ok (.ireturn, 1) := by decide +kernel
theorem d_r_up_18 : decode b_r_up 18 = .ok (.iconst 0, 1) := by decide +kernel
theorem d_r_up_19 : decode b_r_up 19 = .ok (.istore_n 3, 1) := by decide +kernel
theorem d_r_up_20 : decode b_r_up 20 = .ok (.iload_n 3, 1) := by decide +kernel
theorem d_r_up_21 : decode b_r_up 21 = .ok (.bipush 16, 2) := by decide +kernel
theorem d_r_up_23 : decode b_r_up 23 = .ok (.if_icmp .ge 53, 3) := by decide +kernel
theorem d_r_up_26 : decode b_r_up 26 = .ok (.iload_n 2, 1) := by decide +kernel
theorem d_r_up_27 : decode b_r_up 27 = .ok (.ifCond .eq 49, 3) := by decide +kernel
theorem d_r_up_30 : decode b_r_up 30 = .ok (.aload_n 0, 1) := by decide +kernel
theorem d_r_up_31 : decode b_r_up 31 = .ok (.iload_n 1, 1) := by decide +kernel
theorem d_r_up_32 : decode b_r_up 32 = .ok (.iload_n 3, 1) := by decide +kernel
theorem d_r_up_33 : decode b_r_up 33 = .ok (.invokevirtual 170, 3) := by decide +kernel
theorem d_r_up_36 : decode b_r_up 36 = .ok (.iconst 0, 1) := by decide +kernel
theorem d_r_up_37 : decode b_r_up 37 = .ok (.istore 4, 2) := by decide +kernel
theorem d_r_up_39 : decode b_r_up 39 = .ok (.iload 4, 2) := by decide +kernel
theorem d_r_up_41 : decode b_r_up 41 = .ok (.bipush 6, 2) := by decide +kernel
theorem d_r_up_43 : decode b_r_up 43 = .ok (.if_icmp .ge 27, 3) := by decide +kernel
theorem d_r_up_46 : decode b_r_up 46 = .ok (.aload_n 0, 1) := by decide +kernel
theorem d_r_up_47 : decode b_r_up 47 = .ok (.getfield 34, 3) := by decide +kernel
theorem d_r_up_50 : decode b_r_up 50 = .ok (.iload_n 1, 1) := by decide +kernel
theorem d_r_up_51 : decode b_r_up 51 = .ok (.bipush 6, 2) := by decide +kernel
theorem d_r_up_53 : decode b_r_up 53 = .ok (.imul, 1) := by decide +kernel
theorem d_r_up_54 : decode b_r_up 54 = .ok (.iload 4, 2) := by decide +kernel
theorem d_r_up_56 : decode b_r_up 56 = .ok (.iadd, 1) := by decide +kernel
theorem d_r_up_57 : decode b_r_up 57 = .ok (.bipush 16, 2) := by decide +kernel
theorem d_r_up_59 : decode b_r_up 59 = .ok (.imul, 1) := by decide +kernel
theorem d_r_up_60 : decode b_r_up 60 = .ok (.iload_n 3, 1) := by decide +kernel
theorem d_r_up_61 : decode b_r_up 61 = .ok (.iadd, 1) := by decide +kernel
theorem d_r_up_62 : decode b_r_up 62 = .ok (.iconst 0, 1) := by decide +kernel
theorem d_r_up_63 : decode b_r_up 63 = .ok (.iastore, 1) := by decide +kernel
theorem d_r_up_64 : decode b_r_up 64 = .ok (.iinc 4 1, 3) := by decide +kernel
theorem d_r_up_67 : decode b_r_up 67 = .ok (.goto (-28), 3) := by decide +kernel
theorem d_r_up_70 : decode b_r_up 70 = .ok (.iinc 3 1, 3) := by decide +kernel
theorem d_r_up_73 : decode b_r_up 73 = .ok (.goto (-53), 3) := by decide +kernel
theorem d_r_up_76 : decode b_r_up 76 = .ok (.aload_n 0, 1) := by decide +kernel
theorem d_r_up_77 : decode b_r_up 77 = .ok (.dup, 1) := by decide +kernel
theorem d_r_up_78 : decode b_r_up 78 = .ok (.getfield 13, 3) := by decide +kernel
theorem d_r_up_81 : decode b_r_up 81 = .ok (.iconst 1, 1) := by decide +kernel
theorem d_r_up_82 : decode b_r_up 82 = .ok (.iload_n 1, 1) := by decide +kernel
theorem d_r_up_83 : decode b_r_up 83 = .ok (.ishl, 1) := by decide +kernel
theorem d_r_up_84 : decode b_r_up 84 = .ok (.ior, 1) := by decide +kernel
theorem d_r_up_85 : decode b_r_up 85 = .ok (.putfield 13, 3) := by decide +kernel
theorem d_r_up_88 : decode b_r_up 88 = .ok (.iconst 0, 1) := by decide +kernel
theorem d_r_up_89 : decode b_r_up 89 = .ok (.istore_n 3, 1) := by decide +kernel
theorem d_r_up_90 : decode b_r_up 90 = .ok (.iload_n 3, 1) := by decide +kernel
theorem d_r_up_91 : decode b_r_up 91 = .ok (.bipush 6, 2) := by decide +kernel
theorem d_r_up_93 : decode b_r_up 93 = .ok (.if_icmp .ge 23, 3) := by decide +kernel
theorem d_r_up_96 : decode b_r_up 96 = .ok (.aload_n 0, 1) := by decide +kernel
theorem d_r_up_97 : decode b_r_up 97 = .ok (.iload_n 3, 1) := by decide +kernel
theorem d_r_up_98 : decode b_r_up 98 = .ok (.invokevirtual 106, 3) := by decide +kernel
theorem d_r_up_101 : decode b_r_up 101 = .ok (.ifCond .eq 9, 3) := by decide +kernel
theorem d_r_up_104 : decode b_r_up 104 = .ok (.aload_n 0, 1) := by decide +kernel
theorem d_r_up_105 : decode b_r_up 105 = .ok (.iload_n 3, 1) := by decide +kernel
theorem d_r_up_106 : decode b_r_up 106 = .ok (.iload_n 1, 1) := by decide +kernel
theorem d_r_up_107 : decode b_r_up 107 = .ok (.invokevirtual 173, 3) := by decide +kernel
theorem d_r_up_110 : decode b_r_up 110 = .ok (.iinc 3 1, 3) := by decide +kernel
theorem d_r_up_113 : decode b_r_up 113 = .ok (.goto (-23), 3) := by decide +kernel
theorem d_r_up_116 : decode b_r_up 116 = .ok (.iconst 0, 1) := by decide +kernel
theorem d_r_up_117 : decode b_r_up 117 = .ok (.istore_n 3, 1) := by decide +kernel
theorem d_r_up_118 : decode b_r_up 118 = .ok (.iload_n 3, 1) := by decide +kernel
theorem d_r_up_119 : decode b_r_up 119 = .ok (.bipush 6, 2) := by decide +kernel
theorem d_r_up_121 : decode b_r_up 121 = .ok (.if_icmp .ge 28, 3) := by decide +kernel
theorem d_r_up_124 : decode b_r_up 124 = .ok (.iload_n 3, 1) := by decide +kernel
theorem d_r_up_125 : decode b_r_up 125 = .ok (.iload_n 1, 1) := by decide +kernel
theorem d_r_up_126 : decode b_r_up 126 = .ok (.if_icmp .eq 17, 3) := by decide +kernel
theorem d_r_up_129 : decode b_r_up 129 = .ok (.aload_n 0, 1) := by decide +kernel
theorem d_r_up_130 : decode b_r_up 130 = .ok (.iload_n 3, 1) := by decide +kernel
theorem d_r_up_131 : decode b_r_up 131 = .ok (.invokevirtual 106, 3) := by decide +kernel
end
section
theorem d_r_up_134 : decode b_r_up 134 = .ok (.ifCond .eq 9, 3) := by decide +kernel
theorem d_r_up_137 : decode b_r_up 137 = .ok (.aload_n 0, 1) := by decide +kernel
theorem d_r_up_138 : decode b_r_up 138 = .ok (.iload_n 1, 1) := by decide +kernel
theorem d_r_up_139 : decode b_r_up 139 = .ok (.iload_n 3, 1) := by decide +kernel
theorem d_r_up_140 : decode b_r_up 140 = .ok (.invokevirtual 167, 3) := by decide +kernel
theorem d_r_up_143 : decode b_r_up 143 = .ok (.iinc 3 1, 3) := by decide +kernel
theorem d_r_up_146 : decode b_r_up 146 = .ok (.goto (-28), 3) := by decide +kernel
theorem d_r_up_149 : decode b_r_up 149 = .ok (.iconst 1, 1) := by decide +kernel
theorem d_r_up_150 : decode b_r_up 150 = .ok (.ireturn, 1) := by decide +kernel
theorem d_r_handOver_0 : decode b_r_handOver 0 = .ok (.iconst 0, 1) := by decide +kernel
theorem d_r_handOver_1 : decode b_r_handOver 1 = .ok (.istore_n 3, 1) := by decide +kernel
theorem d_r_handOver_2 : decode b_r_handOver 2 = .ok (.iload_n 3, 1) := by decide +kernel
theorem d_r_handOver_3 : decode b_r_handOver 3 = .ok (.bipush 16, 2) := by decide +kernel
theorem d_r_handOver_5 : decode b_r_handOver 5 = .ok (.if_icmp .ge 88, 3) := by decide +kernel
theorem d_r_handOver_8 : decode b_r_handOver 8 = .ok (.iload_n 1, 1) := by decide +kernel
theorem d_r_handOver_9 : decode b_r_handOver 9 = .ok (.bipush 6, 2) := by decide +kernel
theorem d_r_handOver_11 : decode b_r_handOver 11 = .ok (.imul, 1) := by decide +kernel
theorem d_r_handOver_12 : decode b_r_handOver 12 = .ok (.iload_n 2, 1) := by decide +kernel
theorem d_r_handOver_13 : decode b_r_handOver 13 = .ok (.iadd, 1) := by decide +kernel
theorem d_r_handOver_14 : decode b_r_handOver 14 = .ok (.bipush 16, 2) := by decide +kernel
theorem d_r_handOver_16 : decode b_r_handOver 16 = .ok (.imul, 1) := by decide +kernel
theorem d_r_handOver_17 : decode b_r_handOver 17 = .ok (.iload_n 3, 1) := by decide +kernel
theorem d_r_handOver_18 : decode b_r_handOver 18 = .ok (.iadd, 1) := by decide +kernel
theorem d_r_handOver_19 : decode b_r_handOver 19 = .ok (.istore 4, 2) := by decide +kernel
theorem d_r_handOver_21 : decode b_r_handOver 21 = .ok (.aload_n 0, 1) := by decide +kernel
theorem d_r_handOver_22 : decode b_r_handOver 22 = .ok (.getfield 34, 3) := by decide +kernel
theorem d_r_handOver_25 : decode b_r_handOver 25 = .ok (.iload 4, 2) := by decide +kernel
theorem d_r_handOver_27 : decode b_r_handOver 27 = .ok (.iaload, 1) := by decide +kernel
theorem d_r_handOver_28 : decode b_r_handOver 28 = .ok (.ifCond .le 59, 3) := by decide +kernel
theorem d_r_handOver_31 : decode b_r_handOver 31 = .ok (.aload_n 0, 1) := by decide +kernel
theorem d_r_handOver_32 : decode b_r_handOver 32 = .ok (.iload_n 1, 1) := by decide +kernel
theorem d_r_handOver_33 : decode b_r_handOver 33 = .ok (.iload_n 2, 1) := by decide +kernel
theorem d_r_handOver_34 : decode b_r_handOver 34 = .ok (.invokevirtual 112, 3) := by decide +kernel
theorem d_r_handOver_37 : decode b_r_handOver 37 = .ok (.ifCond .eq 50, 3) := by decide +kernel
theorem d_r_handOver_40 : decode b_r_handOver 40 = .ok (.aload_n 0, 1) := by decide +kernel
theorem d_r_handOver_41 : decode b_r_handOver 41 = .ok (.aload_n 0, 1) := by decide +kernel
theorem d_r_handOver_42 : decode b_r_handOver 42 = .ok (.getfield 34, 3) := by decide +kernel
theorem d_r_handOver_45 : decode b_r_handOver 45 = .ok (.iload 4, 2) := by decide +kernel
theorem d_r_handOver_47 : decode b_r_handOver 47 = .ok (.iaload, 1) := by decide +kernel
theorem d_r_handOver_48 : decode b_r_handOver 48 = .ok (.putfield 87, 3) := by decide +kernel
theorem d_r_handOver_51 : decode b_r_handOver 51 = .ok (.aload_n 0, 1) := by decide +kernel
theorem d_r_handOver_52 : decode b_r_handOver 52 = .ok (.aload_n 0, 1) := by decide +kernel
theorem d_r_handOver_53 : decode b_r_handOver 53 = .ok (.getfield 37, 3) := by decide +kernel
theorem d_r_handOver_56 : decode b_r_handOver 56 = .ok (.iload 4, 2) := by decide +kernel
theorem d_r_handOver_58 : decode b_r_handOver 58 = .ok (.iaload, 1) := by decide +kernel
theorem d_r_handOver_59 : decode b_r_handOver 59 = .ok (.putfield 90, 3) := by decide +kernel
theorem d_r_handOver_62 : decode b_r_handOver 62 = .ok (.aload_n 0, 1) := by decide +kernel
theorem d_r_handOver_63 : decode b_r_handOver 63 = .ok (.aload_n 0, 1) := by decide +kernel
theorem d_r_handOver_64 : decode b_r_handOver 64 = .ok (.getfield 40, 3) := by decide +kernel
theorem d_r_handOver_67 : decode b_r_handOver 67 = .ok (.iload 4, 2) := by decide +kernel
theorem d_r_handOver_69 : decode b_r_handOver 69 = .ok (.baload, 1) := by decide +kernel
theorem d_r_handOver_70 : decode b_r_handOver 70 = .ok (.putfield 93, 3) := by decide +kernel
theorem d_r_handOver_73 : decode b_r_handOver 73 = .ok (.aload_n 0, 1) := by decide +kernel
theorem d_r_handOver_74 : decode b_r_handOver 74 = .ok (.iload_n 2, 1) := by decide +kernel
theorem d_r_handOver_75 : decode b_r_handOver 75 = .ok (.iload_n 3, 1) := by decide +kernel
theorem d_r_handOver_76 : decode b_r_handOver 76 = .ok (.invokevirtual 119, 3) := by decide +kernel
theorem d_r_handOver_79 : decode b_r_handOver 79 = .ok (.aload_n 0, 1) := by decide +kernel
theorem d_r_handOver_80 : decode b_r_handOver 80 = .ok (.getfield 34, 3) := by decide +kernel
theorem d_r_handOver_83 : decode b_r_handOver 83 = .ok (.iload 4, 2) := by decide +kernel
theorem d_r_handOver_85 : decode b_r_handOver 85 = .ok (.iconst 0, 1) := by decide +kernel
theorem d_r_handOver_86 : decode b_r_handOver 86 = .ok (.iastore, 1) := by decide +kernel
theorem d_r_handOver_87 : decode b_r_handOver 87 = .ok (.iinc 3 1, 3) := by decide +kernel
theorem d_r_handOver_90 : decode b_r_handOver 90 = .ok (.goto (-88), 3) := by decide +kernel
theorem d_r_handOver_93 : decode b_r_handOver 93 = .ok (.return_, 1) := by decide +kernel
theorem d_r_leader_0 : decode b_r_leader 0 = .ok (.iconst 0, 1) := by decide +kernel
theorem d_r_leader_1 : decode b_r_leader 1 = .ok (.istore_n 1, 1) := by decide +kernel
theorem d_r_leader_2 : decode b_r_leader 2 = .ok (.iload_n 1, 1) := by decide +kernel
theorem d_r_leader_3 : decode b_r_leader 3 = .ok (.iconst 5, 1) := by decide +kernel
theorem d_r_leader_4 : decode b_r_leader 4 = .ok (.if_icmp .ge 17, 3) := by decide +kernel
theorem d_r_leader_7 : decode b_r_leader 7 = .ok (.aload_n 0, 1) := by decide +kernel
theorem d_r_leader_8 : decode b_r_leader 8 = .ok (.iload_n 1, 1) := by decide +kernel
theorem d_r_leader_9 : decode b_r_leader 9 = .ok (.invokevirtual 106, 3) := by decide +kernel
theorem d_r_leader_12 : decode b_r_leader 12 = .ok (.ifCond .ne 9, 3) := by decide +kernel
theorem d_r_leader_15 : decode b_r_leader 15 = .ok (.iinc 1 1, 3) := by decide +kernel
theorem d_r_leader_18 : decode b_r_leader 18 = .ok (.goto (-16), 3) := by decide +kernel
theorem d_r_leader_21 : decode b_r_leader 21 = .ok (.iload_n 1, 1) := by decide +kernel
theorem d_r_leader_22 : decode b_r_leader 22 = .ok (.ireturn, 1) := by decide +kernel
theorem d_r_moveTo_0 : decode b_r_moveTo 0 = .ok (.aload_n 0, 1) := by decide +kernel
theorem d_r_moveTo_1 : decode b_r_moveTo 1 = .ok (.getfield 7, 3) := by decide +kernel
theorem d_r_moveTo_4 : decode b_r_moveTo 4 = .ok (.istore_n 2, 1) := by decide +kernel
theorem d_r_moveTo_5 : decode b_r_moveTo 5 = .ok (.iconst 0, 1) := by decide +kernel
theorem d_r_moveTo_6 : decode b_r_moveTo 6 = .ok (.istore_n 3, 1) := by decide +kernel
theorem d_r_moveTo_7 : decode b_r_moveTo 7 = .ok (.iload_n 3, 1) := by decide +kernel
theorem d_r_moveTo_8 : decode b_r_moveTo 8 = .ok (.bipush 16, 2) := by decide +kernel
theorem d_r_moveTo_10 : decode b_r_moveTo 10 = .ok (.if_icmp .ge 76, 3) := by decide +kernel
theorem d_r_moveTo_13 : decode b_r_moveTo 13 = .ok (.aload_n 0, 1) := by decide +kernel
theorem d_r_moveTo_14 : decode b_r_moveTo 14 = .ok (.iload_n 2, 1) := by decide +kernel
theorem d_r_moveTo_15 : decode b_r_moveTo 15 = .ok (.putfield 7, 3) := by decide +kernel
theorem d_r_moveTo_18 : decode b_r_moveTo 18 = .ok (.aload_n 0, 1) := by decide +kernel
theorem d_r_moveTo_19 : decode b_r_moveTo 19 = .ok (.iload_n 2, 1) := by decide +kernel
theorem d_r_moveTo_20 : decode b_r_moveTo 20 = .ok (.putfield 13, 3) := by decide +kernel
theorem d_r_moveTo_23 : decode b_r_moveTo 23 = .ok (.aload_n 0, 1) := by decide +kernel
theorem d_r_moveTo_24 : decode b_r_moveTo 24 = .ok (.invokevirtual 55, 3) := by decide +kernel
theorem d_r_moveTo_27 : decode b_r_moveTo 27 = .ok (.aload_n 0, 1) := by decide +kernel
theorem d_r_moveTo_28 : decode b_r_moveTo 28 = .ok (.invokevirtual 176, 3) := by decide +kernel
theorem d_r_moveTo_31 : decode b_r_moveTo 31 = .ok (.istore 4, 2) := by decide +kernel
theorem d_r_moveTo_33 : decode b_r_moveTo 33 = .ok (.aload_n 0, 1) := by decide +kernel
theorem d_r_moveTo_34 : decode b_r_moveTo 34 = .ok (.iload 4, 2) := by decide +kernel
theorem d_r_moveTo_36 : decode b_r_moveTo 36 = .ok (.iload_n 3, 1) := by decide +kernel
theorem d_r_moveTo_37 : decode b_r_moveTo 37 = .ok (.invokevirtual 138, 3) := by decide +kernel
theorem d_r_moveTo_40 : decode b_r_moveTo 40 = .ok (.aload_n 0, 1) := by decide +kernel
theorem d_r_moveTo_41 : decode b_r_moveTo 41 = .ok (.iload_n 1, 1) := by decide +kernel
theorem d_r_moveTo_42 : decode b_r_moveTo 42 = .ok (.putfield 7, 3) := by decide +kernel
theorem d_r_moveTo_45 : decode b_r_moveTo 45 = .ok (.aload_n 0, 1) := by decide +kernel
theorem d_r_moveTo_46 : decode b_r_moveTo 46 = .ok (.iload_n 1, 1) := by decide +kernel
theorem d_r_moveTo_47 : decode b_r_moveTo 47 = .ok (.putfield 13, 3) := by decide +kernel
theorem d_r_moveTo_50 : decode b_r_moveTo 50 = .ok (.aload_n 0, 1) := by decide +kernel
theorem d_r_moveTo_51 : decode b_r_moveTo 51 = .ok (.invokevirtual 55, 3) := by decide +kernel
theorem d_r_moveTo_54 : decode b_r_moveTo 54 = .ok (.aload_n 0, 1) := by decide +kernel
theorem d_r_moveTo_55 : decode b_r_moveTo 55 = .ok (.iload_n 3, 1) := by decide +kernel
theorem d_r_moveTo_56 : decode b_r_moveTo 56 = .ok (.invokevirtual 77, 3) := by decide +kernel
theorem d_r_moveTo_59 : decode b_r_moveTo 59 = .ok (.aload_n 0, 1) := by decide +kernel
theorem d_r_moveTo_60 : decode b_r_moveTo 60 = .ok (.getfield 87, 3) := by decide +kernel
theorem d_r_moveTo_63 : decode b_r_moveTo 63 = .ok (.ifCond .le 17, 3) := by decide +kernel
theorem d_r_moveTo_66 : decode b_r_moveTo 66 = .ok (.aload_n 0, 1) := by decide +kernel
theorem d_r_moveTo_67 : decode b_r_moveTo 67 = .ok (.invokevirtual 176, 3) := by decide +kernel
theorem d_r_moveTo_70 : decode b_r_moveTo 70 = .ok (.istore 5, 2) := by decide +kernel
theorem d_r_moveTo_72 : decode b_r_moveTo 72 = .ok (.aload_n 0, 1) := by decide +kernel
theorem d_r_moveTo_73 : decode b_r_moveTo 73 = .ok (.iload 5, 2) := by decide +kernel
theorem d_r_moveTo_75 : decode b_r_moveTo 75 = .ok (.iload_n 3, 1) := by decide +kernel
theorem d_r_moveTo_76 : decode b_r_moveTo 76 = .ok (.iconst 3, 1) := by decide +kernel
theorem d_r_moveTo_77 : decode b_r_moveTo 77 = .ok (.invokevirtual 126, 3) := by decide +kernel
theorem d_r_moveTo_80 : decode b_r_moveTo 80 = .ok (.iinc 3 1, 3) := by decide +kernel
theorem d_r_moveTo_83 : decode b_r_moveTo 83 = .ok (.goto (-76), 3) := by decide +kernel
theorem d_r_moveTo_86 : decode b_r_moveTo 86 = .ok (.aload_n 0, 1) := by decide +kernel
theorem d_r_moveTo_87 : decode b_r_moveTo 87 = .ok (.invokevirtual 179, 3) := by decide +kernel
theorem d_r_moveTo_90 : decode b_r_moveTo 90 = .ok (.return_, 1) := by decide +kernel
theorem d_r_dropOthers_0 : decode b_r_dropOthers 0 = .ok (.iconst 0, 1) := by decide +kernel
theorem d_r_dropOthers_1 : decode b_r_dropOthers 1 = .ok (.istore_n 1, 1) := by decide +kernel
theorem d_r_dropOthers_2 : decode b_r_dropOthers 2 = .ok (.iload_n 1, 1) := by decide +kernel
theorem d_r_dropOthers_3 : decode b_r_dropOthers 3 = .ok (.bipush 6, 2) := by decide +kernel
theorem d_r_dropOthers_5 : decode b_r_dropOthers 5 = .ok (.if_icmp .ge 46, 3) := by decide +kernel
theorem d_r_dropOthers_8 : decode b_r_dropOthers 8 = .ok (.iconst 0, 1) := by decide +kernel
theorem d_r_dropOthers_9 : decode b_r_dropOthers 9 = .ok (.istore_n 2, 1) := by decide +kernel
theorem d_r_dropOthers_10 : decode b_r_dropOthers 10 = .ok (.iload_n 2, 1) := by decide +kernel
theorem d_r_dropOthers_11 : decode b_r_dropOthers 11 = .ok (.bipush 16, 2) := by decide +kernel
theorem d_r_dropOthers_13 : decode b_r_dropOthers 13 = .ok (.if_icmp .ge 32, 3) := by decide +kernel
theorem d_r_dropOthers_16 : decode b_r_dropOthers 16 = .ok (.aload_n 0, 1) := by decide +kernel
theorem d_r_dropOthers_17 : decode b_r_dropOthers 17 = .ok (.iload_n 1, 1) := by decide +kernel
theorem d_r_dropOthers_18 : decode b_r_dropOthers 18 = .ok (.invokevirtual 66, 3) := by decide +kernel
theorem d_r_dropOthers_21 : decode b_r_dropOthers 21 = .ok (.ifCond .eq 12, 3) := by decide +kernel
theorem d_r_dropOthers_24 : decode b_r_dropOthers 24 = .ok (.aload_n 0, 1) := by decide +kernel
theorem d_r_dropOthers_25 : decode b_r_dropOthers 25 = .ok (.iload_n 1, 1) := by decide +kernel
theorem d_r_dropOthers_26 : decode b_r_dropOthers 26 = .ok (.iload_n 2, 1) := by decide +kernel
theorem d_r_dropOthers_27 : decode b_r_dropOthers 27 = .ok (.invokevirtual 149, 3) := by decide +kernel
theorem d_r_dropOthers_30 : decode b_r_dropOthers 30 = .ok (.ifCond .ne 9, 3) := by decide +kernel
theorem d_r_dropOthers_33 : decode b_r_dropOthers 33 = .ok (.aload_n 0, 1) := by decide +kernel
theorem d_r_dropOthers_34 : decode b_r_dropOthers 34 = .ok (.iload_n 1, 1) := by decide +kernel
theorem d_r_dropOthers_35 : decode b_r_dropOthers 35 = .ok (.iload_n 2, 1) := by decide +kernel
theorem d_r_dropOthers_36 : decode b_r_dropOthers 36 = .ok (.invokevirtual 170, 3) := by decide +kernel
theorem d_r_dropOthers_39 : decode b_r_dropOthers 39 = .ok (.iinc 2 1, 3) := by decide +kernel
theorem d_r_dropOthers_42 : decode b_r_dropOthers 42 = .ok (.goto (-32), 3) := by decide +kernel
theorem d_r_dropOthers_45 : decode b_r_dropOthers 45 = .ok (.iinc 1 1, 3) := by decide +kernel
theorem d_r_dropOthers_48 : decode b_r_dropOthers 48 = .ok (.goto (-46), 3) := by decide +kernel
theorem d_r_dropOthers_51 : decode b_r_dropOthers 51 = .ok (.iconst 0, 1) := by decide +kernel
theorem d_r_dropOthers_52 : decode b_r_dropOthers 52 = .ok (.istore_n 1, 1) := by decide +kernel
theorem d_r_dropOthers_53 : decode b_r_dropOthers 53 = .ok (.iload_n 1, 1) := by decide +kernel
theorem d_r_dropOthers_54 : decode b_r_dropOthers 54 = .ok (.sipush 576, 3) := by decide +kernel
theorem d_r_dropOthers_57 : decode b_r_dropOthers 57 = .ok (.if_icmp .ge 16, 3) := by decide +kernel
theorem d_r_dropOthers_60 : decode b_r_dropOthers 60 = .ok (.aload_n 0, 1) := by decide +kernel
theorem d_r_dropOthers_61 : decode b_r_dropOthers 61 = .ok (.getfield 34, 3) := by decide +kernel
theorem d_r_dropOthers_64 : decode b_r_dropOthers 64 = .ok (.iload_n 1, 1) := by decide +kernel
theorem d_r_dropOthers_65 : decode b_r_dropOthers 65 = .ok (.iconst 0, 1) := by decide +kernel
theorem d_r_dropOthers_66 : decode b_r_dropOthers 66 = .ok (.iastore, 1) := by decide +kernel
theorem d_r_dropOthers_67 : decode b_r_dropOthers 67 = .ok (.iinc 1 1, 3) := by decide +kernel
theorem d_r_dropOthers_70 : decode b_r_dropOthers 70 = .ok (.goto (-17), 3) := by decide +kernel
theorem d_r_dropOthers_73 : decode b_r_dropOthers 73 = .ok (.return_, 1) := by decide +kernel
theorem d_r_join_0 : decode b_r_join 0 = .ok (.iload_n 1, 1) := by decide +kernel
theorem d_r_join_1 : decode b_r_join 1 = .ok (.invokestatic 58, 3) := by decide +kernel
theorem d_r_join_4 : decode b_r_join 4 = .ok (.ifCond .ne 6, 3) := by decide +kernel
theorem d_r_join_7 : decode b_r_join 7 = .ok (.ldc 136, 2) := by decide +kernel
theorem d_r_join_9 : decode b_r_join 9 = .ok (.ireturn, 1) := by decide +kernel
theorem d_r_join_10 : decode b_r_join 10 = .ok (.aload_n 0, 1) := by decide +kernel
theorem d_r_join_11 : decode b_r_join 11 = .ok (.iload_n 1, 1) := by decide +kernel
theorem d_r_join_12 : decode b_r_join 12 = .ok (.invokevirtual 66, 3) := by decide +kernel
theorem d_r_join_15 : decode b_r_join 15 = .ok (.ifCond .ne 14, 3) := by decide +kernel
theorem d_r_join_18 : decode b_r_join 18 = .ok (.aload_n 0, 1) := by decide +kernel
theorem d_r_join_19 : decode b_r_join 19 = .ok (.getfield 13, 3) := by decide +kernel
theorem d_r_join_22 : decode b_r_join 22 = .ok (.aload_n 0, 1) := by decide +kernel
theorem d_r_join_23 : decode b_r_join 23 = .ok (.getfield 7, 3) := by decide +kernel
theorem d_r_join_26 : decode b_r_join 26 = .ok (.if_icmp .eq 6, 3) := by decide +kernel
theorem d_r_join_29 : decode b_r_join 29 = .ok (.ldc 137, 2) := by decide +kernel
theorem d_r_join_31 : decode b_r_join 31 = .ok (.ireturn, 1) := by decide +kernel
theorem d_r_join_32 : decode b_r_join 32 = .ok (.aload_n 0, 1) := by decide +kernel
theorem d_r_join_33 : decode b_r_join 33 = .ok (.aload_n 0, 1) := by decide +kernel
theorem d_r_join_34 : decode b_r_join 34 = .ok (.getfield 7, 3) := by decide +kernel
theorem d_r_join_37 : decode b_r_join 37 = .ok (.iconst 1, 1) := by decide +kernel
theorem d_r_join_38 : decode b_r_join 38 = .ok (.iload_n 1, 1) := by decide +kernel
theorem d_r_join_39 : decode b_r_join 39 = .ok (.ishl, 1) := by decide +kernel
theorem d_r_join_40 : decode b_r_join 40 = .ok (.ior, 1) := by decide +kernel
theorem d_r_join_41 : decode b_r_join 41 = .ok (.invokevirtual 182, 3) := by decide +kernel
theorem d_r_join_44 : decode b_r_join 44 = .ok (.aload_n 0, 1) := by decide +kernel
theorem d_r_join_45 : decode b_r_join 45 = .ok (.getfield 7, 3) := by decide +kernel
theorem d_r_join_48 : decode b_r_join 48 = .ok (.invokestatic 103, 3) := by decide +kernel
theorem d_r_join_51 : decode b_r_join 51 = .ok (.ireturn, 1) := by decide +kernel
theorem d_r_leave_0 : decode b_r_leave 0 = .ok (.iload_n 1, 1) := by decide +kernel
theorem d_r_leave_1 : decode b_r_leave 1 = .ok (.invokestatic 58, 3) := by decide +kernel
theorem d_r_leave_4 : decode b_r_leave 4 = .ok (.ifCond .ne 6, 3) := by decide +kernel
theorem d_r_leave_7 : decode b_r_leave 7 = .ok (.ldc 136, 2) := by decide +kernel
theorem d_r_leave_9 : decode b_r_leave 9 = .ok (.ireturn, 1) := by decide +kernel
theorem d_r_leave_10 : decode b_r_leave 10 = .ok (.aload_n 0, 1) := by decide +kernel
theorem d_r_leave_11 : decode b_r_leave 11 = .ok (.iload_n 1, 1) := by decide +kernel
theorem d_r_leave_12 : decode b_r_leave 12 = .ok (.invokevirtual 66, 3) := by decide +kernel
theorem d_r_leave_15 : decode b_r_leave 15 = .ok (.ifCond .eq 25, 3) := by decide +kernel
theorem d_r_leave_18 : decode b_r_leave 18 = .ok (.aload_n 0, 1) := by decide +kernel
theorem d_r_leave_19 : decode b_r_leave 19 = .ok (.getfield 7, 3) := by decide +kernel
theorem d_r_leave_22 : decode b_r_leave 22 = .ok (.invokestatic 103, 3) := by decide +kernel
theorem d_r_leave_25 : decode b_r_leave 25 = .ok (.iconst 3, 1) := by decide +kernel
theorem d_r_leave_26 : decode b_r_leave 26 = .ok (.if_icmp .eq 14, 3) := by decide +kernel
theorem d_r_leave_29 : decode b_r_leave 29 = .ok (.aload_n 0, 1) := by decide +kernel
theorem d_r_leave_30 : decode b_r_leave 30 = .ok (.getfield 13, 3) := by decide +kernel
theorem d_r_leave_33 : decode b_r_leave 33 = .ok (.aload_n 0, 1) := by decide +kernel
theorem d_r_leave_34 : decode b_r_leave 34 = .ok (.getfield 7, 3) := by decide +kernel
theorem d_r_leave_37 : decode b_r_leave 37 = .ok (.if_icmp .eq 6, 3) := by decide +kernel
theorem d_r_leave_40 : decode b_r_leave 40 = .ok (.ldc 137, 2) := by decide +kernel
theorem d_r_leave_42 : decode b_r_leave 42 = .ok (.ireturn, 1) := by decide +kernel
theorem d_r_leave_43 : decode b_r_leave 43 = .ok (.aload_n 0, 1) := by decide +kernel
theorem d_r_leave_44 : decode b_r_leave 44 = .ok (.aload_n 0, 1) := by decide +kernel
theorem d_r_leave_45 : decode b_r_leave 45 = .ok (.getfield 7, 3) := by decide +kernel
theorem d_r_leave_48 : decode b_r_leave 48 = .ok (.iconst 1, 1) := by decide +kernel
theorem d_r_leave_49 : decode b_r_leave 49 = .ok (.iload_n 1, 1) := by decide +kernel
theorem d_r_leave_50 : decode b_r_leave 50 = .ok (.ishl, 1) := by decide +kernel
theorem d_r_leave_51 : decode b_r_leave 51 = .ok (.iconst (-1), 1) := by decide +kernel
theorem d_r_leave_52 : decode b_r_leave 52 = .ok (.ixor, 1) := by decide +kernel
theorem d_r_leave_53 : decode b_r_leave 53 = .ok (.iand, 1) := by decide +kernel
theorem d_r_leave_54 : decode b_r_leave 54 = .ok (.invokevirtual 182, 3) := by decide +kernel
theorem d_r_leave_57 : decode b_r_leave 57 = .ok (.aload_n 0, 1) := by decide +kernel
theorem d_r_leave_58 : decode b_r_leave 58 = .ok (.getfield 7, 3) := by decide +kernel
theorem d_r_leave_61 : decode b_r_leave 61 = .ok (.invokestatic 103, 3) := by decide +kernel
theorem d_r_leave_64 : decode b_r_leave 64 = .ok (.ireturn, 1) := by decide +kernel
theorem d_r_lose_0 : decode b_r_lose 0 = .ok (.iload_n 1, 1) := by decide +kernel
theorem d_r_lose_1 : decode b_r_lose 1 = .ok (.ifCond .lt 9, 3) := by decide +kernel
theorem d_r_lose_4 : decode b_r_lose 4 = .ok (.iload_n 1, 1) := by decide +kernel
theorem d_r_lose_5 : decode b_r_lose 5 = .ok (.bipush 30, 2) := by decide +kernel
theorem d_r_lose_7 : decode b_r_lose 7 = .ok (.if_icmp .le 5, 3) := by decide +kernel
theorem d_r_lose_10 : decode b_r_lose 10 = .ok (.iconst 0, 1) := by decide +kernel
theorem d_r_lose_11 : decode b_r_lose 11 = .ok (.ireturn, 1) := by decide +kernel
theorem d_r_lose_12 : decode b_r_lose 12 = .ok (.aload_n 0, 1) := by decide +kernel
theorem d_r_lose_13 : decode b_r_lose 13 = .ok (.iload_n 1, 1) := by decide +kernel
theorem d_r_lose_14 : decode b_r_lose 14 = .ok (.putfield 84, 3) := by decide +kernel
theorem d_r_lose_17 : decode b_r_lose 17 = .ok (.iconst 1, 1) := by decide +kernel
theorem d_r_lose_18 : decode b_r_lose 18 = .ok (.ireturn, 1) := by decide +kernel
theorem d_r_numberOf_0 : decode b_r_numberOf 0 = .ok (.aload_n 0, 1) := by decide +kernel
theorem d_r_numberOf_1 : decode b_r_numberOf 1 = .ok (.invokevirtual 176, 3) := by decide +kernel
theorem d_r_numberOf_4 : decode b_r_numberOf 4 = .ok (.istore_n 2, 1) := by decide +kernel
theorem d_r_numberOf_5 : decode b_r_numberOf 5 = .ok (.aload_n 0, 1) := by decide +kernel
theorem d_r_numberOf_6 : decode b_r_numberOf 6 = .ok (.iload_n 2, 1) := by decide +kernel
theorem d_r_numberOf_7 : decode b_r_numberOf 7 = .ok (.iload_n 1, 1) := by decide +kernel
theorem d_r_numberOf_8 : decode b_r_numberOf 8 = .ok (.invokevirtual 138, 3) := by decide +kernel
theorem d_r_numberOf_11 : decode b_r_numberOf 11 = .ok (.aload_n 0, 1) := by decide +kernel
theorem d_r_numberOf_12 : decode b_r_numberOf 12 = .ok (.invokevirtual 141, 3) := by decide +kernel
theorem d_r_numberOf_15 : decode b_r_numberOf 15 = .ok (.ireturn, 1) := by decide +kernel
theorem d_r_tidy_0 : decode b_r_tidy 0 = .ok (.aload_n 0, 1) := by decide +kernel
theorem d_r_tidy_1 : decode b_r_tidy 1 = .ok (.invokevirtual 185, 3) := by decide +kernel
theorem d_r_tidy_4 : decode b_r_tidy 4 = .ok (.aload_n 0, 1) := by decide +kernel
theorem d_r_tidy_5 : decode b_r_tidy 5 = .ok (.invokevirtual 188, 3) := by decide +kernel
theorem d_r_tidy_8 : decode b_r_tidy 8 = .ok (.ireturn, 1) := by decide +kernel
theorem d_r_members_0 : decode b_r_members 0 = .ok (.aload_n 0, 1) := by decide +kernel
theorem d_r_members_1 : decode b_r_members 1 = .ok (.getfield 7, 3) := by decide +kernel
theorem d_r_members_4 : decode b_r_members 4 = .ok (.ireturn, 1) := by decide +kernel
theorem d_r_working_0 : decode b_r_working 0 = .ok (.aload_n 0, 1) := by decide +kernel
theorem d_r_working_1 : decode b_r_working 1 = .ok (.getfield 13, 3) := by decide +kernel
theorem d_r_working_4 : decode b_r_working 4 = .ok (.ireturn, 1) := by decide +kernel
theorem d_r_size_0 : decode b_r_size 0 = .ok (.iconst 0, 1) := by decide +kernel
theorem d_r_size_1 : decode b_r_size 1 = .ok (.istore_n 1, 1) := by decide +kernel
theorem d_r_size_2 : decode b_r_size 2 = .ok (.iconst 0, 1) := by decide +kernel
theorem d_r_size_3 : decode b_r_size 3 = .ok (.istore_n 2, 1) := by decide +kernel
theorem d_r_size_4 : decode b_r_size 4 = .ok (.iload_n 2, 1) := by decide +kernel
theorem d_r_size_5 : decode b_r_size 5 = .ok (.bipush 16, 2) := by decide +kernel
theorem d_r_size_7 : decode b_r_size 7 = .ok (.if_icmp .ge 27, 3) := by decide +kernel
theorem d_r_size_10 : decode b_r_size 10 = .ok (.iload_n 1, 1) := by decide +kernel
theorem d_r_size_11 : decode b_r_size 11 = .ok (.aload_n 0, 1) := by decide +kernel
theorem d_r_size_12 : decode b_r_size 12 = .ok (.iload_n 2, 1) := by decide +kernel
theorem d_r_size_13 : decode b_r_size 13 = .ok (.invokevirtual 191, 3) := by decide +kernel
theorem d_r_size_16 : decode b_r_size 16 = .ok (.ldc 129, 2) := by decide +kernel
theorem d_r_size_18 : decode b_r_size 18 = .ok (.if_icmp .eq 7, 3) := by decide +kernel
theorem d_r_size_21 : decode b_r_size 21 = .ok (.iconst 1, 1) := by decide +kernel
theorem d_r_size_22 : decode b_r_size 22 = .ok (.goto 4, 3) := by decide +kernel
theorem d_r_size_25 : decode b_r_size 25 = .ok (.iconst 0, 1) := by decide +kernel
theorem d_r_size_26 : decode b_r_size 26 = .ok (.iadd, 1) := by decide +kernel
theorem d_r_size_27 : decode b_r_size 27 = .ok (.istore_n 1, 1) := by decide +kernel
theorem d_r_size_28 : decode b_r_size 28 = .ok (.iinc 2 1, 3) := by decide +kernel
theorem d_r_size_31 : decode b_r_size 31 = .ok (.goto (-27), 3) := by decide +kernel
theorem d_r_size_34 : decode b_r_size 34 = .ok (.iload_n 1, 1) := by decide +kernel
theorem d_r_size_35 : decode b_r_size 35 = .ok (.ireturn, 1) := by decide +kernel
theorem d_r_nextKey_0 : decode b_r_nextKey 0 = .ok (.iload_n 1, 1) := by decide +kernel
theorem d_r_nextKey_1 : decode b_r_nextKey 1 = .ok (.ifCond .ge 7, 3) := by decide +kernel
theorem d_r_nextKey_4 : decode b_r_nextKey 4 = .ok (.iconst 0, 1) := by decide +kernel
theorem d_r_nextKey_5 : decode b_r_nextKey 5 = .ok (.goto 4, 3) := by decide +kernel
theorem d_r_nextKey_8 : decode b_r_nextKey 8 = .ok (.iload_n 1, 1) := by decide +kernel
theorem d_r_nextKey_9 : decode b_r_nextKey 9 = .ok (.istore_n 2, 1) := by decide +kernel
theorem d_r_nextKey_10 : decode b_r_nextKey 10 = .ok (.iload_n 2, 1) := by decide +kernel
theorem d_r_nextKey_11 : decode b_r_nextKey 11 = .ok (.bipush 16, 2) := by decide +kernel
theorem d_r_nextKey_13 : decode b_r_nextKey 13 = .ok (.if_icmp .ge 21, 3) := by decide +kernel
theorem d_r_nextKey_16 : decode b_r_nextKey 16 = .ok (.aload_n 0, 1) := by decide +kernel
theorem d_r_nextKey_17 : decode b_r_nextKey 17 = .ok (.iload_n 2, 1) := by decide +kernel
theorem d_r_nextKey_18 : decode b_r_nextKey 18 = .ok (.invokevirtual 191, 3) := by decide +kernel
theorem d_r_nextKey_21 : decode b_r_nextKey 21 = .ok (.ldc 129, 2) := by decide +kernel
theorem d_r_nextKey_23 : decode b_r_nextKey 23 = .ok (.if_icmp .eq 5, 3) := by decide +kernel
theorem d_r_nextKey_26 : decode b_r_nextKey 26 = .ok (.iload_n 2, 1) := by decide +kernel
theorem d_r_nextKey_27 : decode b_r_nextKey 27 = .ok (.ireturn, 1) := by decide +kernel
theorem d_r_nextKey_28 : decode b_r_nextKey 28 = .ok (.iinc 2 1, 3) := by decide +kernel
theorem d_r_nextKey_31 : decode b_r_nextKey 31 = .ok (.goto (-21), 3) := by decide +kernel
theorem d_r_nextKey_34 : decode b_r_nextKey 34 = .ok (.ldc 129, 2) := by decide +kernel
theorem d_r_nextKey_36 : decode b_r_nextKey 36 = .ok (.ireturn, 1) := by decide +kernel
theorem d_r_sum_0 : decode b_r_sum 0 = .ok (.iconst 0, 1) := by decide +kernel
theorem d_r_sum_1 : decode b_r_sum 1 = .ok (.istore_n 1, 1) := by decide +kernel
theorem d_r_sum_2 : decode b_r_sum 2 = .ok (.iconst 0, 1) := by decide +kernel
theorem d_r_sum_3 : decode b_r_sum 3 = .ok (.istore_n 2, 1) := by decide +kernel
theorem d_r_sum_4 : decode b_r_sum 4 = .ok (.iload_n 2, 1) := by decide +kernel
theorem d_r_sum_5 : decode b_r_sum 5 = .ok (.bipush 16, 2) := by decide +kernel
theorem d_r_sum_7 : decode b_r_sum 7 = .ok (.if_icmp .ge 29, 3) := by decide +kernel
theorem d_r_sum_10 : decode b_r_sum 10 = .ok (.aload_n 0, 1) := by decide +kernel
theorem d_r_sum_11 : decode b_r_sum 11 = .ok (.iload_n 2, 1) := by decide +kernel
theorem d_r_sum_12 : decode b_r_sum 12 = .ok (.invokevirtual 191, 3) := by decide +kernel
theorem d_r_sum_15 : decode b_r_sum 15 = .ok (.istore_n 3, 1) := by decide +kernel
theorem d_r_sum_16 : decode b_r_sum 16 = .ok (.iload_n 1, 1) := by decide +kernel
theorem d_r_sum_17 : decode b_r_sum 17 = .ok (.iload_n 3, 1) := by decide +kernel
theorem d_r_sum_18 : decode b_r_sum 18 = .ok (.ldc 129, 2) := by decide +kernel
theorem d_r_sum_20 : decode b_r_sum 20 = .ok (.if_icmp .ne 7, 3) := by decide +kernel
theorem d_r_sum_23 : decode b_r_sum 23 = .ok (.iconst 0, 1) := by decide +kernel
theorem d_r_sum_24 : decode b_r_sum 24 = .ok (.goto 4, 3) := by decide +kernel
theorem d_r_sum_27 : decode b_r_sum 27 = .ok (.iload_n 3, 1) := by decide +kernel
theorem d_r_sum_28 : decode b_r_sum 28 = .ok (.iadd, 1) := by decide +kernel
theorem d_r_sum_29 : decode b_r_sum 29 = .ok (.istore_n 1, 1) := by decide +kernel
theorem d_r_sum_30 : decode b_r_sum 30 = .ok (.iinc 2 1, 3) := by decide +kernel
theorem d_r_sum_33 : decode b_r_sum 33 = .ok (.goto (-29), 3) := by decide +kernel
theorem d_r_sum_36 : decode b_r_sum 36 = .ok (.iload_n 1, 1) := by decide +kernel
theorem d_r_sum_37 : decode b_r_sum 37 = .ok (.ireturn, 1) := by decide +kernel
theorem d_r_changes_0 : decode b_r_changes 0 = .ok (.iload_n 1, 1) := by decide +kernel
theorem d_r_changes_1 : decode b_r_changes 1 = .ok (.invokestatic 130, 3) := by decide +kernel
theorem d_r_changes_4 : decode b_r_changes 4 = .ok (.ifCond .ne 6, 3) := by decide +kernel
theorem d_r_changes_7 : decode b_r_changes 7 = .ok (.ldc 136, 2) := by decide +kernel
theorem d_r_changes_9 : decode b_r_changes 9 = .ok (.ireturn, 1) := by decide +kernel
theorem d_r_changes_10 : decode b_r_changes 10 = .ok (.aload_n 0, 1) := by decide +kernel
theorem d_r_changes_11 : decode b_r_changes 11 = .ok (.invokevirtual 176, 3) := by decide +kernel
theorem d_r_changes_14 : decode b_r_changes 14 = .ok (.istore_n 2, 1) := by decide +kernel
theorem d_r_changes_15 : decode b_r_changes 15 = .ok (.aload_n 0, 1) := by decide +kernel
theorem d_r_changes_16 : decode b_r_changes 16 = .ok (.iload_n 2, 1) := by decide +kernel
theorem d_r_changes_17 : decode b_r_changes 17 = .ok (.iload_n 1, 1) := by decide +kernel
theorem d_r_changes_18 : decode b_r_changes 18 = .ok (.invokevirtual 138, 3) := by decide +kernel
theorem d_r_changes_21 : decode b_r_changes 21 = .ok (.aload_n 0, 1) := by decide +kernel
theorem d_r_changes_22 : decode b_r_changes 22 = .ok (.getfield 87, 3) := by decide +kernel
theorem d_r_changes_25 : decode b_r_changes 25 = .ok (.bipush 8, 2) := by decide +kernel
theorem d_r_changes_27 : decode b_r_changes 27 = .ok (.idiv, 1) := by decide +kernel
theorem d_r_changes_28 : decode b_r_changes 28 = .ok (.ireturn, 1) := by decide +kernel
theorem d_m_init_0 : decode b_m_init 0 = .ok (.aload_n 0, 1) := by decide +kernel
theorem d_m_init_1 : decode b_m_init 1 = .ok (.invokespecial 1, 3) := by decide +kernel
theorem d_m_init_4 : decode b_m_init 4 = .ok (.aload_n 0, 1) := by decide +kernel
theorem d_m_init_5 : decode b_m_init 5 = .ok (.bipush 16, 2) := by decide +kernel
theorem d_m_init_7 : decode b_m_init 7 = .ok (.newarray .int, 2) := by decide +kernel
theorem d_m_init_9 : decode b_m_init 9 = .ok (.putfield 7, 3) := by decide +kernel
theorem d_m_init_12 : decode b_m_init 12 = .ok (.aload_n 0, 1) := by decide +kernel
theorem d_m_init_13 : decode b_m_init 13 = .ok (.bipush 16, 2) := by decide +kernel
theorem d_m_init_15 : decode b_m_init 15 = .ok (.newarray .boolean, 2) := by decide +kernel
theorem d_m_init_17 : decode b_m_init 17 = .ok (.putfield 13, 3) := by decide +kernel
theorem d_m_init_20 : decode b_m_init 20 = .ok (.aload_n 0, 1) := by decide +kernel
theorem d_m_init_21 : decode b_m_init 21 = .ok (.bipush 16, 2) := by decide +kernel
theorem d_m_init_23 : decode b_m_init 23 = .ok (.newarray .int, 2) := by decide +kernel
theorem d_m_init_25 : decode b_m_init 25 = .ok (.putfield 17, 3) := by decide +kernel
theorem d_m_init_28 : decode b_m_init 28 = .ok (.aload_n 0, 1) := by decide +kernel
theorem d_m_init_29 : decode b_m_init 29 = .ok (.bipush 7, 2) := by decide +kernel
theorem d_m_init_31 : decode b_m_init 31 = .ok (.putfield 20, 3) := by decide +kernel
theorem d_m_init_34 : decode b_m_init 34 = .ok (.aload_n 0, 1) := by decide +kernel
theorem d_m_init_35 : decode b_m_init 35 = .ok (.iconst (-1), 1) := by decide +kernel
theorem d_m_init_36 : decode b_m_init 36 = .ok (.putfield 24, 3) := by decide +kernel
theorem d_m_init_39 : decode b_m_init 39 = .ok (.return_, 1) := by decide +kernel
theorem d_m_machine_0 : decode b_m_machine 0 = .ok (.iload_n 1, 1) := by decide +kernel
theorem d_m_machine_1 : decode b_m_machine 1 = .ok (.ifCond .lt 12, 3) := by decide +kernel
theorem d_m_machine_4 : decode b_m_machine 4 = .ok (.iload_n 1, 1) := by decide +kernel
theorem d_m_machine_5 : decode b_m_machine 5 = .ok (.iconst 5, 1) := by decide +kernel
theorem d_m_machine_6 : decode b_m_machine 6 = .ok (.if_icmp .gt 7, 3) := by decide +kernel
theorem d_m_machine_9 : decode b_m_machine 9 = .ok (.iconst 1, 1) := by decide +kernel
theorem d_m_machine_10 : decode b_m_machine 10 = .ok (.goto 4, 3) := by decide +kernel
theorem d_m_machine_13 : decode b_m_machine 13 = .ok (.iconst 0, 1) := by decide +kernel
theorem d_m_machine_14 : decode b_m_machine 14 = .ok (.ireturn, 1) := by decide +kernel
theorem d_m_key_0 : decode b_m_key 0 = .ok (.iload_n 1, 1) := by decide +kernel
theorem d_m_key_1 : decode b_m_key 1 = .ok (.ifCond .lt 13, 3) := by decide +kernel
theorem d_m_key_4 : decode b_m_key 4 = .ok (.iload_n 1, 1) := by decide +kernel
theorem d_m_key_5 : decode b_m_key 5 = .ok (.bipush 15, 2) := by decide +kernel
theorem d_m_key_7 : decode b_m_key 7 = .ok (.if_icmp .gt 7, 3) := by decide +kernel
theorem d_m_key_10 : decode b_m_key 10 = .ok (.iconst 1, 1) := by decide +kernel
theorem d_m_key_11 : decode b_m_key 11 = .ok (.goto 4, 3) := by decide +kernel
theorem d_m_key_14 : decode b_m_key 14 = .ok (.iconst 0, 1) := by decide +kernel
theorem d_m_key_15 : decode b_m_key 15 = .ok (.ireturn, 1) := by decide +kernel
theorem d_m_fits_0 : decode b_m_fits 0 = .ok (.iload_n 1, 1) := by decide +kernel
theorem d_m_fits_1 : decode b_m_fits 1 = .ok (.sipush (-9999), 3) := by decide +kernel
theorem d_m_fits_4 : decode b_m_fits 4 = .ok (.if_icmp .lt 14, 3) := by decide +kernel
theorem d_m_fits_7 : decode b_m_fits 7 = .ok (.iload_n 1, 1) := by decide +kernel
theorem d_m_fits_8 : decode b_m_fits 8 = .ok (.sipush 9999, 3) := by decide +kernel
theorem d_m_fits_11 : decode b_m_fits 11 = .ok (.if_icmp .gt 7, 3) := by decide +kernel
theorem d_m_fits_14 : decode b_m_fits 14 = .ok (.iconst 1, 1) := by decide +kernel
theorem d_m_fits_15 : decode b_m_fits 15 = .ok (.goto 4, 3) := by decide +kernel
theorem d_m_fits_18 : decode b_m_fits 18 = .ok (.iconst 0, 1) := by decide +kernel
theorem d_m_fits_19 : decode b_m_fits 19 = .ok (.ireturn, 1) := by decide +kernel
theorem d_m_member_0 : decode b_m_member 0 = .ok (.aload_n 0, 1) := by decide +kernel
theorem d_m_member_1 : decode b_m_member 1 = .ok (.iload_n 1, 1) := by decide +kernel
theorem d_m_member_2 : decode b_m_member 2 = .ok (.invokevirtual 27, 3) := by decide +kernel
theorem d_m_member_5 : decode b_m_member 5 = .ok (.ifCond .eq 19, 3) := by decide +kernel
theorem d_m_member_8 : decode b_m_member 8 = .ok (.aload_n 0, 1) := by decide +kernel
theorem d_m_member_9 : decode b_m_member 9 = .ok (.getfield 20, 3) := by decide +kernel
theorem d_m_member_12 : decode b_m_member 12 = .ok (.iload_n 1, 1) := by decide +kernel
theorem d_m_member_13 : decode b_m_member 13 = .ok (.ishr, 1) := by decide +kernel
theorem d_m_member_14 : decode b_m_member 14 = .ok (.iconst 1, 1) := by decide +kernel
theorem d_m_member_15 : decode b_m_member 15 = .ok (.iand, 1) := by decide +kernel
theorem d_m_member_16 : decode b_m_member 16 = .ok (.iconst 1, 1) := by decide +kernel
theorem d_m_member_17 : decode b_m_member 17 = .ok (.if_icmp .ne 7, 3) := by decide +kernel
theorem d_m_member_20 : decode b_m_member 20 = .ok (.iconst 1, 1) := by decide +kernel
theorem d_m_member_21 : decode b_m_member 21 = .ok (.goto 4, 3) := by decide +kernel
theorem d_m_member_24 : decode b_m_member 24 = .ok (.iconst 0, 1) := by decide +kernel
theorem d_m_member_25 : decode b_m_member 25 = .ok (.ireturn, 1) := by decide +kernel
theorem d_m_works_0 : decode b_m_works 0 = .ok (.aload_n 0, 1) := by decide +kernel
theorem d_m_works_1 : decode b_m_works 1 = .ok (.iload_n 1, 1) := by decide +kernel
theorem d_m_works_2 : decode b_m_works 2 = .ok (.invokevirtual 31, 3) := by decide +kernel
theorem d_m_works_5 : decode b_m_works 5 = .ok (.ifCond .eq 15, 3) := by decide +kernel
theorem d_m_works_8 : decode b_m_works 8 = .ok (.iload_n 1, 1) := by decide +kernel
theorem d_m_works_9 : decode b_m_works 9 = .ok (.aload_n 0, 1) := by decide +kernel
theorem d_m_works_10 : decode b_m_works 10 = .ok (.getfield 24, 3) := by decide +kernel
theorem d_m_works_13 : decode b_m_works 13 = .ok (.if_icmp .eq 7, 3) := by decide +kernel
theorem d_m_works_16 : decode b_m_works 16 = .ok (.iconst 1, 1) := by decide +kernel
theorem d_m_works_17 : decode b_m_works 17 = .ok (.goto 4, 3) := by decide +kernel
theorem d_m_works_20 : decode b_m_works 20 = .ok (.iconst 0, 1) := by decide +kernel
theorem d_m_works_21 : decode b_m_works 21 = .ok (.ireturn, 1) := by decide +kernel
theorem d_m_found_0 : decode b_m_found 0 = .ok (.aload_n 0, 1) := by decide +kernel
theorem d_m_found_1 : decode b_m_found 1 = .ok (.getfield 13, 3) := by decide +kernel
theorem d_m_found_4 : decode b_m_found 4 = .ok (.iload_n 1, 1) := by decide +kernel
theorem d_m_found_5 : decode b_m_found 5 = .ok (.baload, 1) := by decide +kernel
theorem d_m_found_6 : decode b_m_found 6 = .ok (.ifCond .eq 12, 3) := by decide +kernel
theorem d_m_found_9 : decode b_m_found 9 = .ok (.aload_n 0, 1) := by decide +kernel
theorem d_m_found_10 : decode b_m_found 10 = .ok (.getfield 7, 3) := by decide +kernel
theorem d_m_found_13 : decode b_m_found 13 = .ok (.iload_n 1, 1) := by decide +kernel
theorem d_m_found_14 : decode b_m_found 14 = .ok (.iaload, 1) := by decide +kernel
theorem d_m_found_15 : decode b_m_found 15 = .ok (.goto 5, 3) := by decide +kernel
theorem d_m_found_18 : decode b_m_found 18 = .ok (.ldc 34, 2) := by decide +kernel
theorem d_m_found_20 : decode b_m_found 20 = .ok (.ireturn, 1) := by decide +kernel
theorem d_m_hindrance_0 : decode b_m_hindrance 0 = .ok (.aload_n 0, 1) := by decide +kernel
theorem d_m_hindrance_1 : decode b_m_hindrance 1 = .ok (.iload_n 1, 1) := by decide +kernel
theorem d_m_hindrance_2 : decode b_m_hindrance 2 = .ok (.invokevirtual 27, 3) := by decide +kernel
theorem d_m_hindrance_5 : decode b_m_hindrance 5 = .ok (.ifCond .eq 19, 3) := by decide +kernel
theorem d_m_hindrance_8 : decode b_m_hindrance 8 = .ok (.aload_n 0, 1) := by decide +kernel
theorem d_m_hindrance_9 : decode b_m_hindrance 9 = .ok (.iload_n 2, 1) := by decide +kernel
theorem d_m_hindrance_10 : decode b_m_hindrance 10 = .ok (.invokevirtual 35, 3) := by decide +kernel
theorem d_m_hindrance_13 : decode b_m_hindrance 13 = .ok (.ifCond .eq 11, 3) := by decide +kernel
theorem d_m_hindrance_16 : decode b_m_hindrance 16 = .ok (.aload_n 0, 1) := by decide +kernel
theorem d_m_hindrance_17 : decode b_m_hindrance 17 = .ok (.iload_n 3, 1) := by decide +kernel
theorem d_m_hindrance_18 : decode b_m_hindrance 18 = .ok (.invokevirtual 38, 3) := by decide +kernel
theorem d_m_hindrance_21 : decode b_m_hindrance 21 = .ok (.ifCond .ne 8, 3) := by decide +kernel
theorem d_m_hindrance_24 : decode b_m_hindrance 24 = .ok (.ldc 41, 2) := by decide +kernel
theorem d_m_hindrance_26 : decode b_m_hindrance 26 = .ok (.goto 17, 3) := by decide +kernel
theorem d_m_hindrance_29 : decode b_m_hindrance 29 = .ok (.aload_n 0, 1) := by decide +kernel
theorem d_m_hindrance_30 : decode b_m_hindrance 30 = .ok (.iload_n 1, 1) := by decide +kernel
theorem d_m_hindrance_31 : decode b_m_hindrance 31 = .ok (.invokevirtual 42, 3) := by decide +kernel
theorem d_m_hindrance_34 : decode b_m_hindrance 34 = .ok (.ifCond .eq 7, 3) := by decide +kernel
theorem d_m_hindrance_37 : decode b_m_hindrance 37 = .ok (.iconst 0, 1) := by decide +kernel
theorem d_m_hindrance_38 : decode b_m_hindrance 38 = .ok (.goto 5, 3) := by decide +kernel
theorem d_m_hindrance_41 : decode b_m_hindrance 41 = .ok (.ldc 45, 2) := by decide +kernel
theorem d_m_hindrance_43 : decode b_m_hindrance 43 = .ok (.ireturn, 1) := by decide +kernel
theorem d_m_write_0 : decode b_m_write 0 = .ok (.aload_n 0, 1) := by decide +kernel
theorem d_m_write_1 : decode b_m_write 1 = .ok (.getfield 13, 3) := by decide +kernel
theorem d_m_write_4 : decode b_m_write 4 = .ok (.iload_n 1, 1) := by decide +kernel
theorem d_m_write_5 : decode b_m_write 5 = .ok (.iload_n 2, 1) := by decide +kernel
theorem d_m_write_6 : decode b_m_write 6 = .ok (.bastore, 1) := by decide +kernel
theorem d_m_write_7 : decode b_m_write 7 = .ok (.aload_n 0, 1) := by decide +kernel
theorem d_m_write_8 : decode b_m_write 8 = .ok (.getfield 7, 3) := by decide +kernel
theorem d_m_write_11 : decode b_m_write 11 = .ok (.iload_n 1, 1) := by decide +kernel
theorem d_m_write_12 : decode b_m_write 12 = .ok (.iload_n 3, 1) := by decide +kernel
theorem d_m_write_13 : decode b_m_write 13 = .ok (.iastore, 1) := by decide +kernel
theorem d_m_write_14 : decode b_m_write 14 = .ok (.aload_n 0, 1) := by decide +kernel
theorem d_m_write_15 : decode b_m_write 15 = .ok (.getfield 17, 3) := by decide +kernel
theorem d_m_write_18 : decode b_m_write 18 = .ok (.iload_n 1, 1) := by decide +kernel
theorem d_m_write_19 : decode b_m_write 19 = .ok (.dup2, 1) := by decide +kernel
theorem d_m_write_20 : decode b_m_write 20 = .ok (.iaload, 1) := by decide +kernel
theorem d_m_write_21 : decode b_m_write 21 = .ok (.iconst 1, 1) := by decide +kernel
theorem d_m_write_22 : decode b_m_write 22 = .ok (.iadd, 1) := by decide +kernel
theorem d_m_write_23 : decode b_m_write 23 = .ok (.iastore, 1) := by decide +kernel
theorem d_m_write_24 : decode b_m_write 24 = .ok (.return_, 1) := by decide +kernel
theorem d_m_put_0 : decode b_m_put 0 = .ok (.aload_n 0, 1) := by decide +kernel
theorem d_m_put_1 : decode b_m_put 1 = .ok (.iload_n 1, 1) := by decide +kernel
theorem d_m_put_2 : decode b_m_put 2 = .ok (.iload_n 2, 1) := by decide +kernel
theorem d_m_put_3 : decode b_m_put 3 = .ok (.iload_n 3, 1) := by decide +kernel
theorem d_m_put_4 : decode b_m_put 4 = .ok (.invokevirtual 46, 3) := by decide +kernel
theorem d_m_put_7 : decode b_m_put 7 = .ok (.istore 4, 2) := by decide +kernel
theorem d_m_put_9 : decode b_m_put 9 = .ok (.iload 4, 2) := by decide +kernel
theorem d_m_put_11 : decode b_m_put 11 = .ok (.ifCond .ge 6, 3) := by decide +kernel
theorem d_m_put_14 : decode b_m_put 14 = .ok (.iload 4, 2) := by decide +kernel
theorem d_m_put_16 : decode b_m_put 16 = .ok (.ireturn, 1) := by decide +kernel
theorem d_m_put_17 : decode b_m_put 17 = .ok (.aload_n 0, 1) := by decide +kernel
theorem d_m_put_18 : decode b_m_put 18 = .ok (.iload_n 2, 1) := by decide +kernel
theorem d_m_put_19 : decode b_m_put 19 = .ok (.invokevirtual 50, 3) := by decide +kernel
theorem d_m_put_22 : decode b_m_put 22 = .ok (.istore 5, 2) := by decide +kernel
theorem d_m_put_24 : decode b_m_put 24 = .ok (.aload_n 0, 1) := by decide +kernel
theorem d_m_put_25 : decode b_m_put 25 = .ok (.iload_n 2, 1) := by decide +kernel
theorem d_m_put_26 : decode b_m_put 26 = .ok (.iconst 1, 1) := by decide +kernel
theorem d_m_put_27 : decode b_m_put 27 = .ok (.iload_n 3, 1) := by decide +kernel
theorem d_m_put_28 : decode b_m_put 28 = .ok (.invokevirtual 54, 3) := by decide +kernel
theorem d_m_put_31 : decode b_m_put 31 = .ok (.iload 5, 2) := by decide +kernel
theorem d_m_put_33 : decode b_m_put 33 = .ok (.ireturn, 1) := by decide +kernel
theorem d_m_get_0 : decode b_m_get 0 = .ok (.aload_n 0, 1) := by decide +kernel
theorem d_m_get_1 : decode b_m_get 1 = .ok (.iload_n 1, 1) := by decide +kernel
theorem d_m_get_2 : decode b_m_get 2 = .ok (.iload_n 2, 1) := by decide +kernel
theorem d_m_get_3 : decode b_m_get 3 = .ok (.iconst 0, 1) := by decide +kernel
theorem d_m_get_4 : decode b_m_get 4 = .ok (.invokevirtual 46, 3) := by decide +kernel
theorem d_m_get_7 : decode b_m_get 7 = .ok (.istore_n 3, 1) := by decide +kernel
theorem d_m_get_8 : decode b_m_get 8 = .ok (.iload_n 3, 1) := by decide +kernel
theorem d_m_get_9 : decode b_m_get 9 = .ok (.ifCond .ge 7, 3) := by decide +kernel
theorem d_m_get_12 : decode b_m_get 12 = .ok (.iload_n 3, 1) := by decide +kernel
theorem d_m_get_13 : decode b_m_get 13 = .ok (.goto 8, 3) := by decide +kernel
theorem d_m_get_16 : decode b_m_get 16 = .ok (.aload_n 0, 1) := by decide +kernel
theorem d_m_get_17 : decode b_m_get 17 = .ok (.iload_n 2, 1) := by decide +kernel
theorem d_m_get_18 : decode b_m_get 18 = .ok (.invokevirtual 50, 3) := by decide +kernel
theorem d_m_get_21 : decode b_m_get 21 = .ok (.ireturn, 1) := by decide +kernel
theorem d_m_remove_0 : decode b_m_remove 0 = .ok (.aload_n 0, 1) := by decide +kernel
theorem d_m_remove_1 : decode b_m_remove 1 = .ok (.iload_n 1, 1) := by decide +kernel
theorem d_m_remove_2 : decode b_m_remove 2 = .ok (.iload_n 2, 1) := by decide +kernel
theorem d_m_remove_3 : decode b_m_remove 3 = .ok (.iconst 0, 1) := by decide +kernel
theorem d_m_remove_4 : decode b_m_remove 4 = .ok (.invokevirtual 46, 3) := by decide +kernel
theorem d_m_remove_7 : decode b_m_remove 7 = .ok (.istore_n 3, 1) := by decide +kernel
theorem d_m_remove_8 : decode b_m_remove 8 = .ok (.iload_n 3, 1) := by decide +kernel
theorem d_m_remove_9 : decode b_m_remove 9 = .ok (.ifCond .ge 5, 3) := by decide +kernel
theorem d_m_remove_12 : decode b_m_remove 12 = .ok (.iload_n 3, 1) := by decide +kernel
theorem d_m_remove_13 : decode b_m_remove 13 = .ok (.ireturn, 1) := by decide +kernel
theorem d_m_remove_14 : decode b_m_remove 14 = .ok (.aload_n 0, 1) := by decide +kernel
theorem d_m_remove_15 : decode b_m_remove 15 = .ok (.iload_n 2, 1) := by decide +kernel
theorem d_m_remove_16 : decode b_m_remove 16 = .ok (.invokevirtual 50, 3) := by decide +kernel
theorem d_m_remove_19 : decode b_m_remove 19 = .ok (.istore 4, 2) := by decide +kernel
theorem d_m_remove_21 : decode b_m_remove 21 = .ok (.aload_n 0, 1) := by decide +kernel
theorem d_m_remove_22 : decode b_m_remove 22 = .ok (.iload_n 2, 1) := by decide +kernel
theorem d_m_remove_23 : decode b_m_remove 23 = .ok (.iconst 0, 1) := by decide +kernel
theorem d_m_remove_24 : decode b_m_remove 24 = .ok (.iconst 0, 1) := by decide +kernel
theorem d_m_remove_25 : decode b_m_remove 25 = .ok (.invokevirtual 54, 3) := by decide +kernel
theorem d_m_remove_28 : decode b_m_remove 28 = .ok (.iload 4, 2) := by decide +kernel
theorem d_m_remove_30 : decode b_m_remove 30 = .ok (.ireturn, 1) := by decide +kernel
theorem d_m_add_0 : decode b_m_add 0 = .ok (.aload_n 0, 1) := by decide +kernel
theorem d_m_add_1 : decode b_m_add 1 = .ok (.iload_n 1, 1) := by decide +kernel
theorem d_m_add_2 : decode b_m_add 2 = .ok (.iload_n 2, 1) := by decide +kernel
theorem d_m_add_3 : decode b_m_add 3 = .ok (.iload_n 3, 1) := by decide +kernel
theorem d_m_add_4 : decode b_m_add 4 = .ok (.invokevirtual 46, 3) := by decide +kernel
theorem d_m_add_7 : decode b_m_add 7 = .ok (.istore 4, 2) := by decide +kernel
theorem d_m_add_9 : decode b_m_add 9 = .ok (.iload 4, 2) := by decide +kernel
theorem d_m_add_11 : decode b_m_add 11 = .ok (.ifCond .ge 6, 3) := by decide +kernel
theorem d_m_add_14 : decode b_m_add 14 = .ok (.iload 4, 2) := by decide +kernel
theorem d_m_add_16 : decode b_m_add 16 = .ok (.ireturn, 1) := by decide +kernel
theorem d_m_add_17 : decode b_m_add 17 = .ok (.aload_n 0, 1) := by decide +kernel
theorem d_m_add_18 : decode b_m_add 18 = .ok (.getfield 13, 3) := by decide +kernel
theorem d_m_add_21 : decode b_m_add 21 = .ok (.iload_n 2, 1) := by decide +kernel
theorem d_m_add_22 : decode b_m_add 22 = .ok (.baload, 1) := by decide +kernel
theorem d_m_add_23 : decode b_m_add 23 = .ok (.ifCond .eq 14, 3) := by decide +kernel
theorem d_m_add_26 : decode b_m_add 26 = .ok (.aload_n 0, 1) := by decide +kernel
theorem d_m_add_27 : decode b_m_add 27 = .ok (.getfield 7, 3) := by decide +kernel
theorem d_m_add_30 : decode b_m_add 30 = .ok (.iload_n 2, 1) := by decide +kernel
theorem d_m_add_31 : decode b_m_add 31 = .ok (.iaload, 1) := by decide +kernel
theorem d_m_add_32 : decode b_m_add 32 = .ok (.iload_n 3, 1) := by decide +kernel
theorem d_m_add_33 : decode b_m_add 33 = .ok (.iadd, 1) := by decide +kernel
theorem d_m_add_34 : decode b_m_add 34 = .ok (.goto 4, 3) := by decide +kernel
theorem d_m_add_37 : decode b_m_add 37 = .ok (.iload_n 3, 1) := by decide +kernel
theorem d_m_add_38 : decode b_m_add 38 = .ok (.istore 5, 2) := by decide +kernel
theorem d_m_add_40 : decode b_m_add 40 = .ok (.aload_n 0, 1) := by decide +kernel
theorem d_m_add_41 : decode b_m_add 41 = .ok (.iload 5, 2) := by decide +kernel
theorem d_m_add_43 : decode b_m_add 43 = .ok (.invokevirtual 38, 3) := by decide +kernel
theorem d_m_add_46 : decode b_m_add 46 = .ok (.ifCond .ne 6, 3) := by decide +kernel
theorem d_m_add_49 : decode b_m_add 49 = .ok (.ldc 45, 2) := by decide +kernel
theorem d_m_add_51 : decode b_m_add 51 = .ok (.ireturn, 1) := by decide +kernel
theorem d_m_add_52 : decode b_m_add 52 = .ok (.aload_n 0, 1) := by decide +kernel
theorem d_m_add_53 : decode b_m_add 53 = .ok (.iload_n 2, 1) := by decide +kernel
theorem d_m_add_54 : decode b_m_add 54 = .ok (.iconst 1, 1) := by decide +kernel
theorem d_m_add_55 : decode b_m_add 55 = .ok (.iload 5, 2) := by decide +kernel
theorem d_m_add_57 : decode b_m_add 57 = .ok (.invokevirtual 54, 3) := by decide +kernel
theorem d_m_add_60 : decode b_m_add 60 = .ok (.iload 5, 2) := by decide +kernel
theorem d_m_add_62 : decode b_m_add 62 = .ok (.ireturn, 1) := by decide +kernel
theorem d_m_down_0 : decode b_m_down 0 = .ok (.aload_n 0, 1) := by decide +kernel
theorem d_m_down_1 : decode b_m_down 1 = .ok (.iload_n 1, 1) := by decide +kernel
theorem d_m_down_2 : decode b_m_down 2 = .ok (.invokevirtual 42, 3) := by decide +kernel
theorem d_m_down_5 : decode b_m_down 5 = .ok (.ifCond .eq 10, 3) := by decide +kernel
theorem d_m_down_8 : decode b_m_down 8 = .ok (.aload_n 0, 1) := by decide +kernel
theorem d_m_down_9 : decode b_m_down 9 = .ok (.getfield 24, 3) := by decide +kernel
theorem d_m_down_12 : decode b_m_down 12 = .ok (.ifCond .lt 5, 3) := by decide +kernel
theorem d_m_down_15 : decode b_m_down 15 = .ok (.iconst 0, 1) := by decide +kernel
theorem d_m_down_16 : decode b_m_down 16 = .ok (.ireturn, 1) := by decide +kernel
theorem d_m_down_17 : decode b_m_down 17 = .ok (.aload_n 0, 1) := by decide +kernel
theorem d_m_down_18 : decode b_m_down 18 = .ok (.iload_n 1, 1) := by decide +kernel
theorem d_m_down_19 : decode b_m_down 19 = .ok (.putfield 24, 3) := by decide +kernel
theorem d_m_down_22 : decode b_m_down 22 = .ok (.iconst 1, 1) := by decide +kernel
theorem d_m_down_23 : decode b_m_down 23 = .ok (.ireturn, 1) := by decide +kernel
theorem d_m_up_0 : decode b_m_up 0 = .ok (.aload_n 0, 1) := by decide +kernel
theorem d_m_up_1 : decode b_m_up 1 = .ok (.iload_n 1, 1) := by decide +kernel
theorem d_m_up_2 : decode b_m_up 2 = .ok (.invokevirtual 31, 3) := by decide +kernel
theorem d_m_up_5 : decode b_m_up 5 = .ok (.ifCond .eq 11, 3) := by decide +kernel
theorem d_m_up_8 : decode b_m_up 8 = .ok (.iload_n 1, 1) := by decide +kernel
theorem d_m_up_9 : decode b_m_up 9 = .ok (.aload_n 0, 1) := by decide +kernel
theorem d_m_up_10 : decode b_m_up 10 = .ok (.getfield 24, 3) := by decide +kernel
theorem d_m_up_13 : decode b_m_up 13 = .ok (.if_icmp .eq 5, 3) := by decide +kernel
theorem d_m_up_16 : decode b_m_up 16 = .ok (.iconst 0, 1) := by decide +kernel
theorem d_m_up_17 : decode b_m_up 17 = .ok (.ireturn, 1) := by decide +kernel
theorem d_m_up_18 : decode b_m_up 18 = .ok (.aload_n 0, 1) := by decide +kernel
theorem d_m_up_19 : decode b_m_up 19 = .ok (.iconst (-1), 1) := by decide +kernel
theorem d_m_up_20 : decode b_m_up 20 = .ok (.putfield 24, 3) := by decide +kernel
theorem d_m_up_23 : decode b_m_up 23 = .ok (.iconst 1, 1) := by decide +kernel
theorem d_m_up_24 : decode b_m_up 24 = .ok (.ireturn, 1) := by decide +kernel
theorem d_m_join_0 : decode b_m_join 0 = .ok (.aload_n 0, 1) := by decide +kernel
theorem d_m_join_1 : decode b_m_join 1 = .ok (.iload_n 1, 1) := by decide +kernel
theorem d_m_join_2 : decode b_m_join 2 = .ok (.invokevirtual 27, 3) := by decide +kernel
theorem d_m_join_5 : decode b_m_join 5 = .ok (.ifCond .ne 6, 3) := by decide +kernel
theorem d_m_join_8 : decode b_m_join 8 = .ok (.ldc 41, 2) := by decide +kernel
theorem d_m_join_10 : decode b_m_join 10 = .ok (.ireturn, 1) := by decide +kernel
theorem d_m_join_11 : decode b_m_join 11 = .ok (.aload_n 0, 1) := by decide +kernel
theorem d_m_join_12 : decode b_m_join 12 = .ok (.iload_n 1, 1) := by decide +kernel
theorem d_m_join_13 : decode b_m_join 13 = .ok (.invokevirtual 31, 3) := by decide +kernel
theorem d_m_join_16 : decode b_m_join 16 = .ok (.ifCond .ne 10, 3) := by decide +kernel
theorem d_m_join_19 : decode b_m_join 19 = .ok (.aload_n 0, 1) := by decide +kernel
theorem d_m_join_20 : decode b_m_join 20 = .ok (.getfield 24, 3) := by decide +kernel
theorem d_m_join_23 : decode b_m_join 23 = .ok (.ifCond .lt 6, 3) := by decide +kernel
theorem d_m_join_26 : decode b_m_join 26 = .ok (.ldc 45, 2) := by decide +kernel
theorem d_m_join_28 : decode b_m_join 28 = .ok (.ireturn, 1) := by decide +kernel
theorem d_m_join_29 : decode b_m_join 29 = .ok (.aload_n 0, 1) := by decide +kernel
theorem d_m_join_30 : decode b_m_join 30 = .ok (.aload_n 0, 1) := by decide +kernel
theorem d_m_join_31 : decode b_m_join 31 = .ok (.getfield 20, 3) := by decide +kernel
theorem d_m_join_34 : decode b_m_join 34 = .ok (.iconst 1, 1) := by decide +kernel
theorem d_m_join_35 : decode b_m_join 35 = .ok (.iload_n 1, 1) := by decide +kernel
theorem d_m_join_36 : decode b_m_join 36 = .ok (.ishl, 1) := by decide +kernel
theorem d_m_join_37 : decode b_m_join 37 = .ok (.ior, 1) := by decide +kernel
theorem d_m_join_38 : decode b_m_join 38 = .ok (.putfield 20, 3) := by decide +kernel
theorem d_m_join_41 : decode b_m_join 41 = .ok (.aload_n 0, 1) := by decide +kernel
theorem d_m_join_42 : decode b_m_join 42 = .ok (.invokevirtual 58, 3) := by decide +kernel
theorem d_m_join_45 : decode b_m_join 45 = .ok (.ireturn, 1) := by decide +kernel
theorem d_m_many_0 : decode b_m_many 0 = .ok (.iconst 0, 1) := by decide +kernel
theorem d_m_many_1 : decode b_m_many 1 = .ok (.istore_n 1, 1) := by decide +kernel
theorem d_m_many_2 : decode b_m_many 2 = .ok (.iconst 0, 1) := by decide +kernel
theorem d_m_many_3 : decode b_m_many 3 = .ok (.istore_n 2, 1) := by decide +kernel
theorem d_m_many_4 : decode b_m_many 4 = .ok (.iload_n 2, 1) := by decide +kernel
theorem d_m_many_5 : decode b_m_many 5 = .ok (.bipush 6, 2) := by decide +kernel
theorem d_m_many_7 : decode b_m_many 7 = .ok (.if_icmp .ge 20, 3) := by decide +kernel
theorem d_m_many_10 : decode b_m_many 10 = .ok (.iload_n 1, 1) := by decide +kernel
theorem d_m_many_11 : decode b_m_many 11 = .ok (.aload_n 0, 1) := by decide +kernel
theorem d_m_many_12 : decode b_m_many 12 = .ok (.getfield 20, 3) := by decide +kernel
theorem d_m_many_15 : decode b_m_many 15 = .ok (.iload_n 2, 1) := by decide +kernel
theorem d_m_many_16 : decode b_m_many 16 = .ok (.ishr, 1) := by decide +kernel
theorem d_m_many_17 : decode b_m_many 17 = .ok (.iconst 1, 1) := by decide +kernel
theorem d_m_many_18 : decode b_m_many 18 = .ok (.iand, 1) := by decide +kernel
theorem d_m_many_19 : decode b_m_many 19 = .ok (.iadd, 1) := by decide +kernel
theorem d_m_many_20 : decode b_m_many 20 = .ok (.istore_n 1, 1) := by decide +kernel
theorem d_m_many_21 : decode b_m_many 21 = .ok (.iinc 2 1, 3) := by decide +kernel
theorem d_m_many_24 : decode b_m_many 24 = .ok (.goto (-20), 3) := by decide +kernel
theorem d_m_many_27 : decode b_m_many 27 = .ok (.iload_n 1, 1) := by decide +kernel
theorem d_m_many_28 : decode b_m_many 28 = .ok (.ireturn, 1) := by decide +kernel
theorem d_m_leave_0 : decode b_m_leave 0 = .ok (.aload_n 0, 1) := by decide +kernel
theorem d_m_leave_1 : decode b_m_leave 1 = .ok (.iload_n 1, 1) := by decide +kernel
theorem d_m_leave_2 : decode b_m_leave 2 = .ok (.invokevirtual 27, 3) := by decide +kernel
theorem d_m_leave_5 : decode b_m_leave 5 = .ok (.ifCond .ne 6, 3) := by decide +kernel
theorem d_m_leave_8 : decode b_m_leave 8 = .ok (.ldc 41, 2) := by decide +kernel
theorem d_m_leave_10 : decode b_m_leave 10 = .ok (.ireturn, 1) := by decide +kernel
end
section
theorem d_m_leave_11 : decode b_m_leave 11 = .ok (.aload_n 0, 1) := by decide +kernel
theorem d_m_leave_12 : decode b_m_leave 12 = .ok (.iload_n 1, 1) := by decide +kernel
theorem d_m_leave_13 : decode b_m_leave 13 = .ok (.invokevirtual 31, 3) := by decide +kernel
theorem d_m_leave_16 : decode b_m_leave 16 = .ok (.ifCond .eq 18, 3) := by decide +kernel
theorem d_m_leave_19 : decode b_m_leave 19 = .ok (.aload_n 0, 1) := by decide +kernel
theorem d_m_leave_20 : decode b_m_leave 20 = .ok (.invokevirtual 58, 3) := by decide +kernel
theorem d_m_leave_23 : decode b_m_leave 23 = .ok (.iconst 3, 1) := by decide +kernel
theorem d_m_leave_24 : decode b_m_leave 24 = .ok (.if_icmp .eq 10, 3) := by decide +kernel
theorem d_m_leave_27 : decode b_m_leave 27 = .ok (.aload_n 0, 1) := by decide +kernel
theorem d_m_leave_28 : decode b_m_leave 28 = .ok (.getfield 24, 3) := by decide +kernel
theorem d_m_leave_31 : decode b_m_leave 31 = .ok (.ifCond .lt 6, 3) := by decide +kernel
theorem d_m_leave_34 : decode b_m_leave 34 = .ok (.ldc 45, 2) := by decide +kernel
theorem d_m_leave_36 : decode b_m_leave 36 = .ok (.ireturn, 1) := by decide +kernel
theorem d_m_leave_37 : decode b_m_leave 37 = .ok (.aload_n 0, 1) := by decide +kernel
theorem d_m_leave_38 : decode b_m_leave 38 = .ok (.aload_n 0, 1) := by decide +kernel
theorem d_m_leave_39 : decode b_m_leave 39 = .ok (.getfield 20, 3) := by decide +kernel
theorem d_m_leave_42 : decode b_m_leave 42 = .ok (.iconst 1, 1) := by decide +kernel
theorem d_m_leave_43 : decode b_m_leave 43 = .ok (.iload_n 1, 1) := by decide +kernel
theorem d_m_leave_44 : decode b_m_leave 44 = .ok (.ishl, 1) := by decide +kernel
theorem d_m_leave_45 : decode b_m_leave 45 = .ok (.iconst (-1), 1) := by decide +kernel
theorem d_m_leave_46 : decode b_m_leave 46 = .ok (.ixor, 1) := by decide +kernel
theorem d_m_leave_47 : decode b_m_leave 47 = .ok (.iand, 1) := by decide +kernel
theorem d_m_leave_48 : decode b_m_leave 48 = .ok (.putfield 20, 3) := by decide +kernel
theorem d_m_leave_51 : decode b_m_leave 51 = .ok (.aload_n 0, 1) := by decide +kernel
theorem d_m_leave_52 : decode b_m_leave 52 = .ok (.invokevirtual 58, 3) := by decide +kernel
theorem d_m_leave_55 : decode b_m_leave 55 = .ok (.ireturn, 1) := by decide +kernel
theorem d_m_lose_0 : decode b_m_lose 0 = .ok (.iload_n 1, 1) := by decide +kernel
theorem d_m_lose_1 : decode b_m_lose 1 = .ok (.ifCond .lt 13, 3) := by decide +kernel
theorem d_m_lose_4 : decode b_m_lose 4 = .ok (.iload_n 1, 1) := by decide +kernel
theorem d_m_lose_5 : decode b_m_lose 5 = .ok (.bipush 30, 2) := by decide +kernel
theorem d_m_lose_7 : decode b_m_lose 7 = .ok (.if_icmp .gt 7, 3) := by decide +kernel
theorem d_m_lose_10 : decode b_m_lose 10 = .ok (.iconst 1, 1) := by decide +kernel
theorem d_m_lose_11 : decode b_m_lose 11 = .ok (.goto 4, 3) := by decide +kernel
theorem d_m_lose_14 : decode b_m_lose 14 = .ok (.iconst 0, 1) := by decide +kernel
theorem d_m_lose_15 : decode b_m_lose 15 = .ok (.ireturn, 1) := by decide +kernel
theorem d_m_tidy_0 : decode b_m_tidy 0 = .ok (.aload_n 0, 1) := by decide +kernel
theorem d_m_tidy_1 : decode b_m_tidy 1 = .ok (.invokevirtual 62, 3) := by decide +kernel
theorem d_m_tidy_4 : decode b_m_tidy 4 = .ok (.ireturn, 1) := by decide +kernel
theorem d_m_members_0 : decode b_m_members 0 = .ok (.aload_n 0, 1) := by decide +kernel
theorem d_m_members_1 : decode b_m_members 1 = .ok (.getfield 20, 3) := by decide +kernel
theorem d_m_members_4 : decode b_m_members 4 = .ok (.ireturn, 1) := by decide +kernel
theorem d_m_working_0 : decode b_m_working 0 = .ok (.aload_n 0, 1) := by decide +kernel
theorem d_m_working_1 : decode b_m_working 1 = .ok (.getfield 24, 3) := by decide +kernel
theorem d_m_working_4 : decode b_m_working 4 = .ok (.ifCond .ge 10, 3) := by decide +kernel
theorem d_m_working_7 : decode b_m_working 7 = .ok (.aload_n 0, 1) := by decide +kernel
theorem d_m_working_8 : decode b_m_working 8 = .ok (.getfield 20, 3) := by decide +kernel
theorem d_m_working_11 : decode b_m_working 11 = .ok (.goto 16, 3) := by decide +kernel
theorem d_m_working_14 : decode b_m_working 14 = .ok (.aload_n 0, 1) := by decide +kernel
theorem d_m_working_15 : decode b_m_working 15 = .ok (.getfield 20, 3) := by decide +kernel
theorem d_m_working_18 : decode b_m_working 18 = .ok (.iconst 1, 1) := by decide +kernel
theorem d_m_working_19 : decode b_m_working 19 = .ok (.aload_n 0, 1) := by decide +kernel
theorem d_m_working_20 : decode b_m_working 20 = .ok (.getfield 24, 3) := by decide +kernel
theorem d_m_working_23 : decode b_m_working 23 = .ok (.ishl, 1) := by decide +kernel
theorem d_m_working_24 : decode b_m_working 24 = .ok (.iconst (-1), 1) := by decide +kernel
theorem d_m_working_25 : decode b_m_working 25 = .ok (.ixor, 1) := by decide +kernel
theorem d_m_working_26 : decode b_m_working 26 = .ok (.iand, 1) := by decide +kernel
theorem d_m_working_27 : decode b_m_working 27 = .ok (.ireturn, 1) := by decide +kernel
theorem d_m_size_0 : decode b_m_size 0 = .ok (.iconst 0, 1) := by decide +kernel
theorem d_m_size_1 : decode b_m_size 1 = .ok (.istore_n 1, 1) := by decide +kernel
theorem d_m_size_2 : decode b_m_size 2 = .ok (.iconst 0, 1) := by decide +kernel
theorem d_m_size_3 : decode b_m_size 3 = .ok (.istore_n 2, 1) := by decide +kernel
theorem d_m_size_4 : decode b_m_size 4 = .ok (.iload_n 2, 1) := by decide +kernel
theorem d_m_size_5 : decode b_m_size 5 = .ok (.bipush 16, 2) := by decide +kernel
theorem d_m_size_7 : decode b_m_size 7 = .ok (.if_icmp .ge 26, 3) := by decide +kernel
theorem d_m_size_10 : decode b_m_size 10 = .ok (.aload_n 0, 1) := by decide +kernel
theorem d_m_size_11 : decode b_m_size 11 = .ok (.getfield 13, 3) := by decide +kernel
theorem d_m_size_14 : decode b_m_size 14 = .ok (.iload_n 2, 1) := by decide +kernel
theorem d_m_size_15 : decode b_m_size 15 = .ok (.baload, 1) := by decide +kernel
theorem d_m_size_16 : decode b_m_size 16 = .ok (.ifCond .eq 9, 3) := by decide +kernel
theorem d_m_size_19 : decode b_m_size 19 = .ok (.iload_n 1, 1) := by decide +kernel
theorem d_m_size_20 : decode b_m_size 20 = .ok (.iconst 1, 1) := by decide +kernel
theorem d_m_size_21 : decode b_m_size 21 = .ok (.iadd, 1) := by decide +kernel
theorem d_m_size_22 : decode b_m_size 22 = .ok (.goto 4, 3) := by decide +kernel
theorem d_m_size_25 : decode b_m_size 25 = .ok (.iload_n 1, 1) := by decide +kernel
theorem d_m_size_26 : decode b_m_size 26 = .ok (.istore_n 1, 1) := by decide +kernel
theorem d_m_size_27 : decode b_m_size 27 = .ok (.iinc 2 1, 3) := by decide +kernel
theorem d_m_size_30 : decode b_m_size 30 = .ok (.goto (-26), 3) := by decide +kernel
theorem d_m_size_33 : decode b_m_size 33 = .ok (.iload_n 1, 1) := by decide +kernel
theorem d_m_size_34 : decode b_m_size 34 = .ok (.ireturn, 1) := by decide +kernel
theorem d_m_nextKey_0 : decode b_m_nextKey 0 = .ok (.iconst 0, 1) := by decide +kernel
theorem d_m_nextKey_1 : decode b_m_nextKey 1 = .ok (.istore_n 2, 1) := by decide +kernel
theorem d_m_nextKey_2 : decode b_m_nextKey 2 = .ok (.iload_n 2, 1) := by decide +kernel
theorem d_m_nextKey_3 : decode b_m_nextKey 3 = .ok (.bipush 16, 2) := by decide +kernel
theorem d_m_nextKey_5 : decode b_m_nextKey 5 = .ok (.if_icmp .ge 25, 3) := by decide +kernel
theorem d_m_nextKey_8 : decode b_m_nextKey 8 = .ok (.iload_n 2, 1) := by decide +kernel
theorem d_m_nextKey_9 : decode b_m_nextKey 9 = .ok (.iload_n 1, 1) := by decide +kernel
theorem d_m_nextKey_10 : decode b_m_nextKey 10 = .ok (.if_icmp .lt 14, 3) := by decide +kernel
theorem d_m_nextKey_13 : decode b_m_nextKey 13 = .ok (.aload_n 0, 1) := by decide +kernel
theorem d_m_nextKey_14 : decode b_m_nextKey 14 = .ok (.getfield 13, 3) := by decide +kernel
theorem d_m_nextKey_17 : decode b_m_nextKey 17 = .ok (.iload_n 2, 1) := by decide +kernel
theorem d_m_nextKey_18 : decode b_m_nextKey 18 = .ok (.baload, 1) := by decide +kernel
theorem d_m_nextKey_19 : decode b_m_nextKey 19 = .ok (.ifCond .eq 5, 3) := by decide +kernel
theorem d_m_nextKey_22 : decode b_m_nextKey 22 = .ok (.iload_n 2, 1) := by decide +kernel
theorem d_m_nextKey_23 : decode b_m_nextKey 23 = .ok (.ireturn, 1) := by decide +kernel
theorem d_m_nextKey_24 : decode b_m_nextKey 24 = .ok (.iinc 2 1, 3) := by decide +kernel
theorem d_m_nextKey_27 : decode b_m_nextKey 27 = .ok (.goto (-25), 3) := by decide +kernel
theorem d_m_nextKey_30 : decode b_m_nextKey 30 = .ok (.ldc 34, 2) := by decide +kernel
theorem d_m_nextKey_32 : decode b_m_nextKey 32 = .ok (.ireturn, 1) := by decide +kernel
theorem d_m_sum_0 : decode b_m_sum 0 = .ok (.iconst 0, 1) := by decide +kernel
theorem d_m_sum_1 : decode b_m_sum 1 = .ok (.istore_n 1, 1) := by decide +kernel
theorem d_m_sum_2 : decode b_m_sum 2 = .ok (.iconst 0, 1) := by decide +kernel
theorem d_m_sum_3 : decode b_m_sum 3 = .ok (.istore_n 2, 1) := by decide +kernel
theorem d_m_sum_4 : decode b_m_sum 4 = .ok (.iload_n 2, 1) := by decide +kernel
theorem d_m_sum_5 : decode b_m_sum 5 = .ok (.bipush 16, 2) := by decide +kernel
theorem d_m_sum_7 : decode b_m_sum 7 = .ok (.if_icmp .ge 31, 3) := by decide +kernel
theorem d_m_sum_10 : decode b_m_sum 10 = .ok (.aload_n 0, 1) := by decide +kernel
theorem d_m_sum_11 : decode b_m_sum 11 = .ok (.getfield 13, 3) := by decide +kernel
theorem d_m_sum_14 : decode b_m_sum 14 = .ok (.iload_n 2, 1) := by decide +kernel
theorem d_m_sum_15 : decode b_m_sum 15 = .ok (.baload, 1) := by decide +kernel
theorem d_m_sum_16 : decode b_m_sum 16 = .ok (.ifCond .eq 14, 3) := by decide +kernel
theorem d_m_sum_19 : decode b_m_sum 19 = .ok (.iload_n 1, 1) := by decide +kernel
theorem d_m_sum_20 : decode b_m_sum 20 = .ok (.aload_n 0, 1) := by decide +kernel
theorem d_m_sum_21 : decode b_m_sum 21 = .ok (.getfield 7, 3) := by decide +kernel
theorem d_m_sum_24 : decode b_m_sum 24 = .ok (.iload_n 2, 1) := by decide +kernel
theorem d_m_sum_25 : decode b_m_sum 25 = .ok (.iaload, 1) := by decide +kernel
theorem d_m_sum_26 : decode b_m_sum 26 = .ok (.iadd, 1) := by decide +kernel
theorem d_m_sum_27 : decode b_m_sum 27 = .ok (.goto 4, 3) := by decide +kernel
theorem d_m_sum_30 : decode b_m_sum 30 = .ok (.iload_n 1, 1) := by decide +kernel
theorem d_m_sum_31 : decode b_m_sum 31 = .ok (.istore_n 1, 1) := by decide +kernel
theorem d_m_sum_32 : decode b_m_sum 32 = .ok (.iinc 2 1, 3) := by decide +kernel
theorem d_m_sum_35 : decode b_m_sum 35 = .ok (.goto (-31), 3) := by decide +kernel
theorem d_m_sum_38 : decode b_m_sum 38 = .ok (.iload_n 1, 1) := by decide +kernel
theorem d_m_sum_39 : decode b_m_sum 39 = .ok (.ireturn, 1) := by decide +kernel
theorem d_m_changes_0 : decode b_m_changes 0 = .ok (.aload_n 0, 1) := by decide +kernel
theorem d_m_changes_1 : decode b_m_changes 1 = .ok (.iload_n 1, 1) := by decide +kernel
theorem d_m_changes_2 : decode b_m_changes 2 = .ok (.invokevirtual 35, 3) := by decide +kernel
theorem d_m_changes_5 : decode b_m_changes 5 = .ok (.ifCond .eq 12, 3) := by decide +kernel
theorem d_m_changes_8 : decode b_m_changes 8 = .ok (.aload_n 0, 1) := by decide +kernel
theorem d_m_changes_9 : decode b_m_changes 9 = .ok (.getfield 17, 3) := by decide +kernel
theorem d_m_changes_12 : decode b_m_changes 12 = .ok (.iload_n 1, 1) := by decide +kernel
theorem d_m_changes_13 : decode b_m_changes 13 = .ok (.iaload, 1) := by decide +kernel
theorem d_m_changes_14 : decode b_m_changes 14 = .ok (.goto 5, 3) := by decide +kernel
theorem d_m_changes_17 : decode b_m_changes 17 = .ok (.ldc 41, 2) := by decide +kernel
theorem d_m_changes_19 : decode b_m_changes 19 = .ok (.ireturn, 1) := by decide +kernel
theorem d_law_0 : decode code 0 = .ok (.new 7, 3) := by decide +kernel
theorem d_law_3 : decode code 3 = .ok (.dup, 1) := by decide +kernel
theorem d_law_4 : decode code 4 = .ok (.invokespecial 9, 3) := by decide +kernel
theorem d_law_7 : decode code 7 = .ok (.astore_n 1, 1) := by decide +kernel
theorem d_law_8 : decode code 8 = .ok (.new 10, 3) := by decide +kernel
theorem d_law_11 : decode code 11 = .ok (.dup, 1) := by decide +kernel
theorem d_law_12 : decode code 12 = .ok (.invokespecial 12, 3) := by decide +kernel
theorem d_law_15 : decode code 15 = .ok (.astore_n 2, 1) := by decide +kernel
theorem d_law_16 : decode code 16 = .ok (.iconst 0, 1) := by decide +kernel
theorem d_law_17 : decode code 17 = .ok (.istore_n 3, 1) := by decide +kernel
theorem d_law_18 : decode code 18 = .ok (.iload_n 3, 1) := by decide +kernel
theorem d_law_19 : decode code 19 = .ok (.aload_n 0, 1) := by decide +kernel
theorem d_law_20 : decode code 20 = .ok (.arraylength, 1) := by decide +kernel
theorem d_law_21 : decode code 21 = .ok (.iconst 4, 1) := by decide +kernel
theorem d_law_22 : decode code 22 = .ok (.isub, 1) := by decide +kernel
theorem d_law_23 : decode code 23 = .ok (.if_icmp .gt 499, 3) := by decide +kernel
theorem d_law_26 : decode code 26 = .ok (.aload_n 0, 1) := by decide +kernel
theorem d_law_27 : decode code 27 = .ok (.iload_n 3, 1) := by decide +kernel
theorem d_law_28 : decode code 28 = .ok (.iaload, 1) := by decide +kernel
theorem d_law_29 : decode code 29 = .ok (.bipush 15, 2) := by decide +kernel
theorem d_law_31 : decode code 31 = .ok (.iand, 1) := by decide +kernel
theorem d_law_32 : decode code 32 = .ok (.tableswitch 484 0 15 #[80, 123, 156, 189, 232, 255, 304, 327, 350, 373, 386, 399, 412, 425, 448, 461], 80) := by decide +kernel
theorem d_law_112 : decode code 112 = .ok (.aload_n 1, 1) := by decide +kernel
theorem d_law_113 : decode code 113 = .ok (.aload_n 0, 1) := by decide +kernel
theorem d_law_114 : decode code 114 = .ok (.iload_n 3, 1) := by decide +kernel
theorem d_law_115 : decode code 115 = .ok (.iconst 1, 1) := by decide +kernel
theorem d_law_116 : decode code 116 = .ok (.iadd, 1) := by decide +kernel
theorem d_law_117 : decode code 117 = .ok (.iaload, 1) := by decide +kernel
theorem d_law_118 : decode code 118 = .ok (.aload_n 0, 1) := by decide +kernel
theorem d_law_119 : decode code 119 = .ok (.iload_n 3, 1) := by decide +kernel
theorem d_law_120 : decode code 120 = .ok (.iconst 2, 1) := by decide +kernel
theorem d_law_121 : decode code 121 = .ok (.iadd, 1) := by decide +kernel
theorem d_law_122 : decode code 122 = .ok (.iaload, 1) := by decide +kernel
theorem d_law_123 : decode code 123 = .ok (.aload_n 0, 1) := by decide +kernel
theorem d_law_124 : decode code 124 = .ok (.iload_n 3, 1) := by decide +kernel
theorem d_law_125 : decode code 125 = .ok (.iconst 3, 1) := by decide +kernel
theorem d_law_126 : decode code 126 = .ok (.iadd, 1) := by decide +kernel
theorem d_law_127 : decode code 127 = .ok (.iaload, 1) := by decide +kernel
theorem d_law_128 : decode code 128 = .ok (.invokevirtual 13, 3) := by decide +kernel
theorem d_law_131 : decode code 131 = .ok (.aload_n 2, 1) := by decide +kernel
theorem d_law_132 : decode code 132 = .ok (.aload_n 0, 1) := by decide +kernel
theorem d_law_133 : decode code 133 = .ok (.iload_n 3, 1) := by decide +kernel
theorem d_law_134 : decode code 134 = .ok (.iconst 1, 1) := by decide +kernel
theorem d_law_135 : decode code 135 = .ok (.iadd, 1) := by decide +kernel
theorem d_law_136 : decode code 136 = .ok (.iaload, 1) := by decide +kernel
theorem d_law_137 : decode code 137 = .ok (.aload_n 0, 1) := by decide +kernel
theorem d_law_138 : decode code 138 = .ok (.iload_n 3, 1) := by decide +kernel
theorem d_law_139 : decode code 139 = .ok (.iconst 2, 1) := by decide +kernel
theorem d_law_140 : decode code 140 = .ok (.iadd, 1) := by decide +kernel
theorem d_law_141 : decode code 141 = .ok (.iaload, 1) := by decide +kernel
theorem d_law_142 : decode code 142 = .ok (.aload_n 0, 1) := by decide +kernel
theorem d_law_143 : decode code 143 = .ok (.iload_n 3, 1) := by decide +kernel
theorem d_law_144 : decode code 144 = .ok (.iconst 3, 1) := by decide +kernel
theorem d_law_145 : decode code 145 = .ok (.iadd, 1) := by decide +kernel
theorem d_law_146 : decode code 146 = .ok (.iaload, 1) := by decide +kernel
theorem d_law_147 : decode code 147 = .ok (.invokevirtual 17, 3) := by decide +kernel
theorem d_law_150 : decode code 150 = .ok (.if_icmp .eq 366, 3) := by decide +kernel
theorem d_law_153 : decode code 153 = .ok (.iconst 0, 1) := by decide +kernel
theorem d_law_154 : decode code 154 = .ok (.ireturn, 1) := by decide +kernel
theorem d_law_155 : decode code 155 = .ok (.aload_n 1, 1) := by decide +kernel
theorem d_law_156 : decode code 156 = .ok (.aload_n 0, 1) := by decide +kernel
theorem d_law_157 : decode code 157 = .ok (.iload_n 3, 1) := by decide +kernel
theorem d_law_158 : decode code 158 = .ok (.iconst 1, 1) := by decide +kernel
theorem d_law_159 : decode code 159 = .ok (.iadd, 1) := by decide +kernel
theorem d_law_160 : decode code 160 = .ok (.iaload, 1) := by decide +kernel
theorem d_law_161 : decode code 161 = .ok (.aload_n 0, 1) := by decide +kernel
theorem d_law_162 : decode code 162 = .ok (.iload_n 3, 1) := by decide +kernel
theorem d_law_163 : decode code 163 = .ok (.iconst 2, 1) := by decide +kernel
theorem d_law_164 : decode code 164 = .ok (.iadd, 1) := by decide +kernel
theorem d_law_165 : decode code 165 = .ok (.iaload, 1) := by decide +kernel
theorem d_law_166 : decode code 166 = .ok (.invokevirtual 18, 3) := by decide +kernel
theorem d_law_169 : decode code 169 = .ok (.aload_n 2, 1) := by decide +kernel
theorem d_law_170 : decode code 170 = .ok (.aload_n 0, 1) := by decide +kernel
theorem d_law_171 : decode code 171 = .ok (.iload_n 3, 1) := by decide +kernel
theorem d_law_172 : decode code 172 = .ok (.iconst 1, 1) := by decide +kernel
theorem d_law_173 : decode code 173 = .ok (.iadd, 1) := by decide +kernel
theorem d_law_174 : decode code 174 = .ok (.iaload, 1) := by decide +kernel
theorem d_law_175 : decode code 175 = .ok (.aload_n 0, 1) := by decide +kernel
theorem d_law_176 : decode code 176 = .ok (.iload_n 3, 1) := by decide +kernel
theorem d_law_177 : decode code 177 = .ok (.iconst 2, 1) := by decide +kernel
theorem d_law_178 : decode code 178 = .ok (.iadd, 1) := by decide +kernel
theorem d_law_179 : decode code 179 = .ok (.iaload, 1) := by decide +kernel
theorem d_law_180 : decode code 180 = .ok (.invokevirtual 22, 3) := by decide +kernel
theorem d_law_183 : decode code 183 = .ok (.if_icmp .eq 333, 3) := by decide +kernel
theorem d_law_186 : decode code 186 = .ok (.iconst 0, 1) := by decide +kernel
theorem d_law_187 : decode code 187 = .ok (.ireturn, 1) := by decide +kernel
theorem d_law_188 : decode code 188 = .ok (.aload_n 1, 1) := by decide +kernel
theorem d_law_189 : decode code 189 = .ok (.aload_n 0, 1) := by decide +kernel
theorem d_law_190 : decode code 190 = .ok (.iload_n 3, 1) := by decide +kernel
theorem d_law_191 : decode code 191 = .ok (.iconst 1, 1) := by decide +kernel
theorem d_law_192 : decode code 192 = .ok (.iadd, 1) := by decide +kernel
theorem d_law_193 : decode code 193 = .ok (.iaload, 1) := by decide +kernel
theorem d_law_194 : decode code 194 = .ok (.aload_n 0, 1) := by decide +kernel
theorem d_law_195 : decode code 195 = .ok (.iload_n 3, 1) := by decide +kernel
theorem d_law_196 : decode code 196 = .ok (.iconst 2, 1) := by decide +kernel
theorem d_law_197 : decode code 197 = .ok (.iadd, 1) := by decide +kernel
theorem d_law_198 : decode code 198 = .ok (.iaload, 1) := by decide +kernel
theorem d_law_199 : decode code 199 = .ok (.invokevirtual 23, 3) := by decide +kernel
theorem d_law_202 : decode code 202 = .ok (.aload_n 2, 1) := by decide +kernel
theorem d_law_203 : decode code 203 = .ok (.aload_n 0, 1) := by decide +kernel
theorem d_law_204 : decode code 204 = .ok (.iload_n 3, 1) := by decide +kernel
theorem d_law_205 : decode code 205 = .ok (.iconst 1, 1) := by decide +kernel
theorem d_law_206 : decode code 206 = .ok (.iadd, 1) := by decide +kernel
theorem d_law_207 : decode code 207 = .ok (.iaload, 1) := by decide +kernel
theorem d_law_208 : decode code 208 = .ok (.aload_n 0, 1) := by decide +kernel
theorem d_law_209 : decode code 209 = .ok (.iload_n 3, 1) := by decide +kernel
theorem d_law_210 : decode code 210 = .ok (.iconst 2, 1) := by decide +kernel
theorem d_law_211 : decode code 211 = .ok (.iadd, 1) := by decide +kernel
theorem d_law_212 : decode code 212 = .ok (.iaload, 1) := by decide +kernel
theorem d_law_213 : decode code 213 = .ok (.invokevirtual 26, 3) := by decide +kernel
theorem d_law_216 : decode code 216 = .ok (.if_icmp .eq 300, 3) := by decide +kernel
theorem d_law_219 : decode code 219 = .ok (.iconst 0, 1) := by decide +kernel
theorem d_law_220 : decode code 220 = .ok (.ireturn, 1) := by decide +kernel
theorem d_law_221 : decode code 221 = .ok (.aload_n 1, 1) := by decide +kernel
theorem d_law_222 : decode code 222 = .ok (.aload_n 0, 1) := by decide +kernel
theorem d_law_223 : decode code 223 = .ok (.iload_n 3, 1) := by decide +kernel
theorem d_law_224 : decode code 224 = .ok (.iconst 1, 1) := by decide +kernel
theorem d_law_225 : decode code 225 = .ok (.iadd, 1) := by decide +kernel
theorem d_law_226 : decode code 226 = .ok (.iaload, 1) := by decide +kernel
theorem d_law_227 : decode code 227 = .ok (.aload_n 0, 1) := by decide +kernel
theorem d_law_228 : decode code 228 = .ok (.iload_n 3, 1) := by decide +kernel
theorem d_law_229 : decode code 229 = .ok (.iconst 2, 1) := by decide +kernel
theorem d_law_230 : decode code 230 = .ok (.iadd, 1) := by decide +kernel
theorem d_law_231 : decode code 231 = .ok (.iaload, 1) := by decide +kernel
theorem d_law_232 : decode code 232 = .ok (.aload_n 0, 1) := by decide +kernel
theorem d_law_233 : decode code 233 = .ok (.iload_n 3, 1) := by decide +kernel
theorem d_law_234 : decode code 234 = .ok (.iconst 3, 1) := by decide +kernel
theorem d_law_235 : decode code 235 = .ok (.iadd, 1) := by decide +kernel
theorem d_law_236 : decode code 236 = .ok (.iaload, 1) := by decide +kernel
theorem d_law_237 : decode code 237 = .ok (.invokevirtual 27, 3) := by decide +kernel
theorem d_law_240 : decode code 240 = .ok (.aload_n 2, 1) := by decide +kernel
theorem d_law_241 : decode code 241 = .ok (.aload_n 0, 1) := by decide +kernel
theorem d_law_242 : decode code 242 = .ok (.iload_n 3, 1) := by decide +kernel
theorem d_law_243 : decode code 243 = .ok (.iconst 1, 1) := by decide +kernel
theorem d_law_244 : decode code 244 = .ok (.iadd, 1) := by decide +kernel
theorem d_law_245 : decode code 245 = .ok (.iaload, 1) := by decide +kernel
theorem d_law_246 : decode code 246 = .ok (.aload_n 0, 1) := by decide +kernel
theorem d_law_247 : decode code 247 = .ok (.iload_n 3, 1) := by decide +kernel
theorem d_law_248 : decode code 248 = .ok (.iconst 2, 1) := by decide +kernel
theorem d_law_249 : decode code 249 = .ok (.iadd, 1) := by decide +kernel
theorem d_law_250 : decode code 250 = .ok (.iaload, 1) := by decide +kernel
theorem d_law_251 : decode code 251 = .ok (.aload_n 0, 1) := by decide +kernel
theorem d_law_252 : decode code 252 = .ok (.iload_n 3, 1) := by decide +kernel
theorem d_law_253 : decode code 253 = .ok (.iconst 3, 1) := by decide +kernel
theorem d_law_254 : decode code 254 = .ok (.iadd, 1) := by decide +kernel
theorem d_law_255 : decode code 255 = .ok (.iaload, 1) := by decide +kernel
theorem d_law_256 : decode code 256 = .ok (.invokevirtual 30, 3) := by decide +kernel
theorem d_law_259 : decode code 259 = .ok (.if_icmp .eq 257, 3) := by decide +kernel
theorem d_law_262 : decode code 262 = .ok (.iconst 0, 1) := by decide +kernel
theorem d_law_263 : decode code 263 = .ok (.ireturn, 1) := by decide +kernel
theorem d_law_264 : decode code 264 = .ok (.aload_n 1, 1) := by decide +kernel
theorem d_law_265 : decode code 265 = .ok (.aload_n 0, 1) := by decide +kernel
theorem d_law_266 : decode code 266 = .ok (.iload_n 3, 1) := by decide +kernel
theorem d_law_267 : decode code 267 = .ok (.iconst 1, 1) := by decide +kernel
theorem d_law_268 : decode code 268 = .ok (.iadd, 1) := by decide +kernel
theorem d_law_269 : decode code 269 = .ok (.iaload, 1) := by decide +kernel
theorem d_law_270 : decode code 270 = .ok (.invokevirtual 31, 3) := by decide +kernel
theorem d_law_273 : decode code 273 = .ok (.aload_n 2, 1) := by decide +kernel
theorem d_law_274 : decode code 274 = .ok (.aload_n 0, 1) := by decide +kernel
theorem d_law_275 : decode code 275 = .ok (.iload_n 3, 1) := by decide +kernel
theorem d_law_276 : decode code 276 = .ok (.iconst 1, 1) := by decide +kernel
theorem d_law_277 : decode code 277 = .ok (.iadd, 1) := by decide +kernel
theorem d_law_278 : decode code 278 = .ok (.iaload, 1) := by decide +kernel
theorem d_law_279 : decode code 279 = .ok (.invokevirtual 35, 3) := by decide +kernel
theorem d_law_282 : decode code 282 = .ok (.if_icmp .eq 234, 3) := by decide +kernel
theorem d_law_285 : decode code 285 = .ok (.iconst 0, 1) := by decide +kernel
theorem d_law_286 : decode code 286 = .ok (.ireturn, 1) := by decide +kernel
theorem d_law_287 : decode code 287 = .ok (.aload_n 1, 1) := by decide +kernel
theorem d_law_288 : decode code 288 = .ok (.aload_n 0, 1) := by decide +kernel
theorem d_law_289 : decode code 289 = .ok (.iload_n 3, 1) := by decide +kernel
theorem d_law_290 : decode code 290 = .ok (.iconst 1, 1) := by decide +kernel
theorem d_law_291 : decode code 291 = .ok (.iadd, 1) := by decide +kernel
theorem d_law_292 : decode code 292 = .ok (.iaload, 1) := by decide +kernel
theorem d_law_293 : decode code 293 = .ok (.aload_n 0, 1) := by decide +kernel
theorem d_law_294 : decode code 294 = .ok (.iload_n 3, 1) := by decide +kernel
theorem d_law_295 : decode code 295 = .ok (.iconst 2, 1) := by decide +kernel
theorem d_law_296 : decode code 296 = .ok (.iadd, 1) := by decide +kernel
theorem d_law_297 : decode code 297 = .ok (.iaload, 1) := by decide +kernel
theorem d_law_298 : decode code 298 = .ok (.ifCond .eq 7, 3) := by decide +kernel
theorem d_law_301 : decode code 301 = .ok (.iconst 1, 1) := by decide +kernel
theorem d_law_302 : decode code 302 = .ok (.goto 4, 3) := by decide +kernel
theorem d_law_305 : decode code 305 = .ok (.iconst 0, 1) := by decide +kernel
theorem d_law_306 : decode code 306 = .ok (.invokevirtual 36, 3) := by decide +kernel
theorem d_law_309 : decode code 309 = .ok (.aload_n 2, 1) := by decide +kernel
theorem d_law_310 : decode code 310 = .ok (.aload_n 0, 1) := by decide +kernel
theorem d_law_311 : decode code 311 = .ok (.iload_n 3, 1) := by decide +kernel
theorem d_law_312 : decode code 312 = .ok (.iconst 1, 1) := by decide +kernel
theorem d_law_313 : decode code 313 = .ok (.iadd, 1) := by decide +kernel
theorem d_law_314 : decode code 314 = .ok (.iaload, 1) := by decide +kernel
theorem d_law_315 : decode code 315 = .ok (.aload_n 0, 1) := by decide +kernel
theorem d_law_316 : decode code 316 = .ok (.iload_n 3, 1) := by decide +kernel
theorem d_law_317 : decode code 317 = .ok (.iconst 2, 1) := by decide +kernel
theorem d_law_318 : decode code 318 = .ok (.iadd, 1) := by decide +kernel
theorem d_law_319 : decode code 319 = .ok (.iaload, 1) := by decide +kernel
theorem d_law_320 : decode code 320 = .ok (.ifCond .eq 7, 3) := by decide +kernel
theorem d_law_323 : decode code 323 = .ok (.iconst 1, 1) := by decide +kernel
theorem d_law_324 : decode code 324 = .ok (.goto 4, 3) := by decide +kernel
theorem d_law_327 : decode code 327 = .ok (.iconst 0, 1) := by decide +kernel
theorem d_law_328 : decode code 328 = .ok (.invokevirtual 40, 3) := by decide +kernel
theorem d_law_331 : decode code 331 = .ok (.if_icmp .eq 185, 3) := by decide +kernel
theorem d_law_334 : decode code 334 = .ok (.iconst 0, 1) := by decide +kernel
theorem d_law_335 : decode code 335 = .ok (.ireturn, 1) := by decide +kernel
theorem d_law_336 : decode code 336 = .ok (.aload_n 1, 1) := by decide +kernel
theorem d_law_337 : decode code 337 = .ok (.aload_n 0, 1) := by decide +kernel
theorem d_law_338 : decode code 338 = .ok (.iload_n 3, 1) := by decide +kernel
theorem d_law_339 : decode code 339 = .ok (.iconst 1, 1) := by decide +kernel
theorem d_law_340 : decode code 340 = .ok (.iadd, 1) := by decide +kernel
theorem d_law_341 : decode code 341 = .ok (.iaload, 1) := by decide +kernel
theorem d_law_342 : decode code 342 = .ok (.invokevirtual 41, 3) := by decide +kernel
theorem d_law_345 : decode code 345 = .ok (.aload_n 2, 1) := by decide +kernel
theorem d_law_346 : decode code 346 = .ok (.aload_n 0, 1) := by decide +kernel
theorem d_law_347 : decode code 347 = .ok (.iload_n 3, 1) := by decide +kernel
theorem d_law_348 : decode code 348 = .ok (.iconst 1, 1) := by decide +kernel
theorem d_law_349 : decode code 349 = .ok (.iadd, 1) := by decide +kernel
theorem d_law_350 : decode code 350 = .ok (.iaload, 1) := by decide +kernel
theorem d_law_351 : decode code 351 = .ok (.invokevirtual 45, 3) := by decide +kernel
theorem d_law_354 : decode code 354 = .ok (.if_icmp .eq 162, 3) := by decide +kernel
theorem d_law_357 : decode code 357 = .ok (.iconst 0, 1) := by decide +kernel
theorem d_law_358 : decode code 358 = .ok (.ireturn, 1) := by decide +kernel
theorem d_law_359 : decode code 359 = .ok (.aload_n 1, 1) := by decide +kernel
theorem d_law_360 : decode code 360 = .ok (.aload_n 0, 1) := by decide +kernel
theorem d_law_361 : decode code 361 = .ok (.iload_n 3, 1) := by decide +kernel
theorem d_law_362 : decode code 362 = .ok (.iconst 1, 1) := by decide +kernel
theorem d_law_363 : decode code 363 = .ok (.iadd, 1) := by decide +kernel
theorem d_law_364 : decode code 364 = .ok (.iaload, 1) := by decide +kernel
theorem d_law_365 : decode code 365 = .ok (.invokevirtual 46, 3) := by decide +kernel
theorem d_law_368 : decode code 368 = .ok (.aload_n 2, 1) := by decide +kernel
theorem d_law_369 : decode code 369 = .ok (.aload_n 0, 1) := by decide +kernel
theorem d_law_370 : decode code 370 = .ok (.iload_n 3, 1) := by decide +kernel
theorem d_law_371 : decode code 371 = .ok (.iconst 1, 1) := by decide +kernel
theorem d_law_372 : decode code 372 = .ok (.iadd, 1) := by decide +kernel
theorem d_law_373 : decode code 373 = .ok (.iaload, 1) := by decide +kernel
theorem d_law_374 : decode code 374 = .ok (.invokevirtual 49, 3) := by decide +kernel
theorem d_law_377 : decode code 377 = .ok (.if_icmp .eq 139, 3) := by decide +kernel
theorem d_law_380 : decode code 380 = .ok (.iconst 0, 1) := by decide +kernel
theorem d_law_381 : decode code 381 = .ok (.ireturn, 1) := by decide +kernel
theorem d_law_382 : decode code 382 = .ok (.aload_n 1, 1) := by decide +kernel
theorem d_law_383 : decode code 383 = .ok (.aload_n 0, 1) := by decide +kernel
theorem d_law_384 : decode code 384 = .ok (.iload_n 3, 1) := by decide +kernel
theorem d_law_385 : decode code 385 = .ok (.iconst 1, 1) := by decide +kernel
theorem d_law_386 : decode code 386 = .ok (.iadd, 1) := by decide +kernel
theorem d_law_387 : decode code 387 = .ok (.iaload, 1) := by decide +kernel
theorem d_law_388 : decode code 388 = .ok (.invokevirtual 50, 3) := by decide +kernel
theorem d_law_391 : decode code 391 = .ok (.aload_n 2, 1) := by decide +kernel
theorem d_law_392 : decode code 392 = .ok (.aload_n 0, 1) := by decide +kernel
theorem d_law_393 : decode code 393 = .ok (.iload_n 3, 1) := by decide +kernel
theorem d_law_394 : decode code 394 = .ok (.iconst 1, 1) := by decide +kernel
theorem d_law_395 : decode code 395 = .ok (.iadd, 1) := by decide +kernel
theorem d_law_396 : decode code 396 = .ok (.iaload, 1) := by decide +kernel
theorem d_law_397 : decode code 397 = .ok (.invokevirtual 53, 3) := by decide +kernel
theorem d_law_400 : decode code 400 = .ok (.if_icmp .eq 116, 3) := by decide +kernel
theorem d_law_403 : decode code 403 = .ok (.iconst 0, 1) := by decide +kernel
theorem d_law_404 : decode code 404 = .ok (.ireturn, 1) := by decide +kernel
theorem d_law_405 : decode code 405 = .ok (.aload_n 1, 1) := by decide +kernel
theorem d_law_406 : decode code 406 = .ok (.invokevirtual 54, 3) := by decide +kernel
theorem d_law_409 : decode code 409 = .ok (.aload_n 2, 1) := by decide +kernel
theorem d_law_410 : decode code 410 = .ok (.invokevirtual 58, 3) := by decide +kernel
theorem d_law_413 : decode code 413 = .ok (.if_icmp .eq 103, 3) := by decide +kernel
theorem d_law_416 : decode code 416 = .ok (.iconst 0, 1) := by decide +kernel
theorem d_law_417 : decode code 417 = .ok (.ireturn, 1) := by decide +kernel
theorem d_law_418 : decode code 418 = .ok (.aload_n 1, 1) := by decide +kernel
theorem d_law_419 : decode code 419 = .ok (.invokevirtual 59, 3) := by decide +kernel
theorem d_law_422 : decode code 422 = .ok (.aload_n 2, 1) := by decide +kernel
theorem d_law_423 : decode code 423 = .ok (.invokevirtual 62, 3) := by decide +kernel
theorem d_law_426 : decode code 426 = .ok (.if_icmp .eq 90, 3) := by decide +kernel
theorem d_law_429 : decode code 429 = .ok (.iconst 0, 1) := by decide +kernel
theorem d_law_430 : decode code 430 = .ok (.ireturn, 1) := by decide +kernel
theorem d_law_431 : decode code 431 = .ok (.aload_n 1, 1) := by decide +kernel
theorem d_law_432 : decode code 432 = .ok (.invokevirtual 63, 3) := by decide +kernel
theorem d_law_435 : decode code 435 = .ok (.aload_n 2, 1) := by decide +kernel
theorem d_law_436 : decode code 436 = .ok (.invokevirtual 66, 3) := by decide +kernel
theorem d_law_439 : decode code 439 = .ok (.if_icmp .eq 77, 3) := by decide +kernel
theorem d_law_442 : decode code 442 = .ok (.iconst 0, 1) := by decide +kernel
theorem d_law_443 : decode code 443 = .ok (.ireturn, 1) := by decide +kernel
theorem d_law_444 : decode code 444 = .ok (.aload_n 1, 1) := by decide +kernel
theorem d_law_445 : decode code 445 = .ok (.invokevirtual 67, 3) := by decide +kernel
theorem d_law_448 : decode code 448 = .ok (.aload_n 2, 1) := by decide +kernel
theorem d_law_449 : decode code 449 = .ok (.invokevirtual 70, 3) := by decide +kernel
theorem d_law_452 : decode code 452 = .ok (.if_icmp .eq 64, 3) := by decide +kernel
theorem d_law_455 : decode code 455 = .ok (.iconst 0, 1) := by decide +kernel
theorem d_law_456 : decode code 456 = .ok (.ireturn, 1) := by decide +kernel
theorem d_law_457 : decode code 457 = .ok (.aload_n 1, 1) := by decide +kernel
theorem d_law_458 : decode code 458 = .ok (.aload_n 0, 1) := by decide +kernel
theorem d_law_459 : decode code 459 = .ok (.iload_n 3, 1) := by decide +kernel
theorem d_law_460 : decode code 460 = .ok (.iconst 1, 1) := by decide +kernel
theorem d_law_461 : decode code 461 = .ok (.iadd, 1) := by decide +kernel
theorem d_law_462 : decode code 462 = .ok (.iaload, 1) := by decide +kernel
theorem d_law_463 : decode code 463 = .ok (.invokevirtual 71, 3) := by decide +kernel
theorem d_law_466 : decode code 466 = .ok (.aload_n 2, 1) := by decide +kernel
theorem d_law_467 : decode code 467 = .ok (.aload_n 0, 1) := by decide +kernel
theorem d_law_468 : decode code 468 = .ok (.iload_n 3, 1) := by decide +kernel
theorem d_law_469 : decode code 469 = .ok (.iconst 1, 1) := by decide +kernel
theorem d_law_470 : decode code 470 = .ok (.iadd, 1) := by decide +kernel
theorem d_law_471 : decode code 471 = .ok (.iaload, 1) := by decide +kernel
theorem d_law_472 : decode code 472 = .ok (.invokevirtual 74, 3) := by decide +kernel
theorem d_law_475 : decode code 475 = .ok (.if_icmp .eq 41, 3) := by decide +kernel
theorem d_law_478 : decode code 478 = .ok (.iconst 0, 1) := by decide +kernel
theorem d_law_479 : decode code 479 = .ok (.ireturn, 1) := by decide +kernel
theorem d_law_480 : decode code 480 = .ok (.aload_n 1, 1) := by decide +kernel
theorem d_law_481 : decode code 481 = .ok (.invokevirtual 75, 3) := by decide +kernel
theorem d_law_484 : decode code 484 = .ok (.aload_n 2, 1) := by decide +kernel
theorem d_law_485 : decode code 485 = .ok (.invokevirtual 78, 3) := by decide +kernel
theorem d_law_488 : decode code 488 = .ok (.if_icmp .eq 28, 3) := by decide +kernel
theorem d_law_491 : decode code 491 = .ok (.iconst 0, 1) := by decide +kernel
theorem d_law_492 : decode code 492 = .ok (.ireturn, 1) := by decide +kernel
theorem d_law_493 : decode code 493 = .ok (.aload_n 1, 1) := by decide +kernel
theorem d_law_494 : decode code 494 = .ok (.aload_n 0, 1) := by decide +kernel
theorem d_law_495 : decode code 495 = .ok (.iload_n 3, 1) := by decide +kernel
theorem d_law_496 : decode code 496 = .ok (.iconst 1, 1) := by decide +kernel
theorem d_law_497 : decode code 497 = .ok (.iadd, 1) := by decide +kernel
theorem d_law_498 : decode code 498 = .ok (.iaload, 1) := by decide +kernel
theorem d_law_499 : decode code 499 = .ok (.invokevirtual 79, 3) := by decide +kernel
theorem d_law_502 : decode code 502 = .ok (.aload_n 2, 1) := by decide +kernel
theorem d_law_503 : decode code 503 = .ok (.aload_n 0, 1) := by decide +kernel
theorem d_law_504 : decode code 504 = .ok (.iload_n 3, 1) := by decide +kernel
theorem d_law_505 : decode code 505 = .ok (.iconst 1, 1) := by decide +kernel
theorem d_law_506 : decode code 506 = .ok (.iadd, 1) := by decide +kernel
theorem d_law_507 : decode code 507 = .ok (.iaload, 1) := by decide +kernel
theorem d_law_508 : decode code 508 = .ok (.invokevirtual 82, 3) := by decide +kernel
theorem d_law_511 : decode code 511 = .ok (.if_icmp .eq 5, 3) := by decide +kernel
theorem d_law_514 : decode code 514 = .ok (.iconst 0, 1) := by decide +kernel
theorem d_law_515 : decode code 515 = .ok (.ireturn, 1) := by decide +kernel
theorem d_law_516 : decode code 516 = .ok (.iinc 3 4, 3) := by decide +kernel
theorem d_law_519 : decode code 519 = .ok (.goto (-501), 3) := by decide +kernel
theorem d_law_522 : decode code 522 = .ok (.iconst 1, 1) := by decide +kernel
theorem d_law_523 : decode code 523 = .ok (.ireturn, 1) := by decide +kernel
end
section
/-! the state of an object: group 0 holds its whole numbers by slot, group g the array of that group -/
abbrev St : Type := Nat → Nat → Int32
def up2 (σ : St) (a b : Nat) (v : Int32) : St := va_up σ a (upd (σ a) b v)
def isB (v : Int32) : Prop := v = 0 ∨ v = 1
def bI (b : Prop) [Decidable b] : Int32 := if b then 1 else 0
theorem isB_0 : isB 0 := Or.inl rfl
theorem isB_1 : isB 1 := Or.inr rfl
theorem isB_n0 : isB (nI 0) := Or.inl rfl
theorem isB_n1 : isB (nI 1) := Or.inr rfl
theorem isB_nar {v : Int32} (h : isB v) : narrow .boolean (.int v) = .int v := by rcases h with rfl | rfl <;> decide
theorem isB_vp {v : Int32} (h : isB v) : vp_nar .boolean v = v := by rcases h with rfl | rfl <;> decide
theorem isB_fit {v : Int32} (h : isB v) : fits .boolean (.int v) = true := by rcases h with rfl | rfl <;> decide
theorem isB_bI (b : Prop) [Decidable b] : isB (bI b) := by unfold bI; split; exact isB_1; exact isB_0
abbrev fwr (ad : Nat → Nat) (σ : St) : List Value := [.int (σ 0 0), .int (σ 0 1), .int (σ 0 2), .ref (ad 3), .ref (ad 4), .ref (ad 5), .ref (ad 6), .ref (ad 7), .ref (ad 8), .ref (ad 9), .ref (ad 10), .ref (ad 11), .int (σ 0 12), .int (σ 0 13), .int (σ 0 14), .int (σ 0 15), .ref (ad 16), .ref (ad 17), .ref (ad 18), .int (σ 0 19), .int (σ 0 20)]
abbrev wr (ad : Nat → Nat) (cs : Nat → ClassId) (σ : St) : va_W := [(ad 0, .inr (0, fwr ad σ)), (ad 3, .inl (cs 3, 24, .inl (σ 3))), (ad 4, .inl (cs 4, 24, .inl (σ 4))), (ad 5, .inl (cs 5, 96, .inl (σ 5))), (ad 6, .inl (cs 6, 96, .inl (σ 6))), (ad 7, .inl (cs 7, 96, .inl (σ 7))), (ad 8, .inl (cs 8, 576, .inl (σ 8))), (ad 9, .inl (cs 9, 576, .inl (σ 9))), (ad 10, .inl (cs 10, 576, .inl (σ 10))), (ad 11, .inl (cs 11, 3, .inl (σ 11))), (ad 16, .inl (cs 16, 31, .inl (σ 16))), (ad 17, .inl (cs 17, 31, .inl (σ 17))), (ad 18, .inl (cs 18, 31, .inl (σ 18)))]
abbrev tr_ (cs : Nat → ClassId) : List (ClassId × FieldType) := [(cs 3, .int), (cs 4, .byte), (cs 5, .int), (cs 6, .int), (cs 7, .boolean), (cs 8, .int), (cs 9, .int), (cs 10, .boolean), (cs 11, .byte), (cs 16, .int), (cs 17, .int), (cs 18, .boolean)]
abbrev fwm (ad : Nat → Nat) (σ : St) : List Value := [.ref (ad 1), .ref (ad 2), .ref (ad 3), .int (σ 0 3), .int (σ 0 4)]
abbrev wm (ad : Nat → Nat) (cs : Nat → ClassId) (σ : St) : va_W := [(ad 0, .inr (1, fwm ad σ)), (ad 1, .inl (cs 1, 16, .inl (σ 1))), (ad 2, .inl (cs 2, 16, .inl (σ 2))), (ad 3, .inl (cs 3, 16, .inl (σ 3)))]
abbrev tm_ (cs : Nat → ClassId) : List (ClassId × FieldType) := [(cs 1, .int), (cs 2, .boolean), (cs 3, .int)]
abbrev wfT : Type := (Nat → Nat) → (Nat → ClassId) → St → va_W
abbrev tfT : Type := (Nat → ClassId) → List (ClassId × FieldType)
/-- the world that a walk stands in: the class tables, the cells of the state σ, apart, nothing else changed since the start -/
def rW (wf : wfT) (tf : tfT) (D : va_G) (ad : Nat → Nat) (cs : Nat → ClassId) (A : Nat → Prop) (s : State) (σ : St) (H : Heap) (locs : List Loc) : Prop :=
  va_K D classes (tf cs) s ∧ va_P D classes (wf ad cs σ) H ∧ va_D A (wf ad cs σ) ∧ va_S A s.heap H locs ∧ ∀ q, s.heap.size ≤ q → A q
def rPc (wf : wfT) (tf : tfT) (D : va_G) (ad : Nat → Nat) (cs : Nat → ClassId) (sz : Nat) (σ : St) (av : List Value) : Array Value → State → Prop :=
  va_Pc (.ref (ad 0) :: av) (fun U => U.heap.size = sz ∧ va_P D classes (wf ad cs σ) U.heap ∧ va_K D classes (tf cs) U ∧ va_D (fun _ => True) (wf ad cs σ))
def rB (wf : wfT) (tf : tfT) (D : va_G) (ad : Nat → Nat) (cs : Nat → ClassId) (A : Nat → Prop) (σ : St) (t : State) : Prop :=
  va_P D classes (wf ad cs σ) t.heap ∧ va_K D classes (tf cs) t ∧ va_D A (wf ad cs σ)
/-- a method's contract, with an int (or boolean) for an answer: from Pre σ it answers r and leaves σ' with Post σ r σ' -/
def rCi (wf : wfT) (tf : tfT) (l : Launch) (y : MethodName) (ws : List Cond) (fr lo : Nat) (av : List Value) (Pre : St → Prop) (Post : St → Int32 → St → Prop) : Prop :=
  ∀ (D : va_G) (ad : Nat → Nat) (cs : Nat → ClassId) (sz : Nat) (σ : St), Pre σ →
    Met l y ws { frames := fr, cells := 0, slots := 0, locals := lo } (rPc wf tf D ad cs sz σ av) (va_Qi (Post σ) (rB wf tf D ad cs (va_A (wf ad cs σ) sz)) (va_A (wf ad cs σ) sz)) 0 0 (va_A (wf ad cs σ) sz)
/-- the same without an answer -/
def rCv (wf : wfT) (tf : tfT) (l : Launch) (y : MethodName) (ws : List Cond) (fr lo : Nat) (av : List Value) (Pre : St → Prop) (Post : St → St → Prop) : Prop :=
  ∀ (D : va_G) (ad : Nat → Nat) (cs : Nat → ClassId) (sz : Nat) (σ : St), Pre σ →
    Met l y ws { frames := fr, cells := 0, slots := 0, locals := lo } (rPc wf tf D ad cs sz σ av) (va_Qv (Post σ) (rB wf tf D ad cs (va_A (wf ad cs σ) sz)) (va_A (wf ad cs σ) sz)) 0 0 (va_A (wf ad cs σ) sz)
/-- a static method's contract: a function of its arguments -/
def rCs (l : Launch) (y : MethodName) (ws : List Cond) (fr lo : Nat) (av : List Value) (r : Int32) : Prop :=
  Met l y ws { frames := fr, cells := 0, slots := 0, locals := lo } (fun v _ => v = av.toArray) (QcRead r) 0 0 (fun _ => False)
theorem rCi.mk {wf : wfT} {tf : tfT} {l : Launch} {y : MethodName} {b : ByteArray} {nL : Nat} {rt : FieldType} {fr lo : Nat} {av : List Value} {Pre : St → Prop} {Post : St → Int32 → St → Prop} (own : String) (hy : plainName y.cls = true) (hc : y.cls = own) (hn : (lg_sl (.ref 0 :: av)).length ≤ nL)
    (h : ∀ (D : va_G) (ad : Nat → Nat) (cs : Nat → ClassId) (σ : St), Pre σ → ∀ (p : Program) (e : Env) (s : State) (mi : MethodId) (args : Array Value) (below : List Frame) (meth : Method) (c : Code) (A : Nat → Prop), CallFix p mi c b nL s args gw_tbl own → meth.sig.returnType = some rt → meth.locks = false → rW wf tf D ad cs A s σ s.heap [] →
      ∀ ls : Array Slot, lv_has ls nL (lv_args 0 (.ref (ad 0) :: av)) → W p l e { frames := fr, cells := 0, slots := 0, locals := lo } s mi args below meth c s.heap [] 0 0 (MQ below (va_Qi (Post σ) (rB wf tf D ad cs A) A) args s 0 0 A) (F0 mi 0 ls [])) :
    rCi wf tf l y (.code y b nL (some rt) :: gw_tbl) fr lo av Pre Post := by
  intro D ad cs sz σ hpre
  refine Met.ofW (cc := b) (maxL := nL) (ret := some rt) hy rfl ?_
  intro p e s m args below meth c s₁ B hml hv
  obtain ⟨rfl, hsz, hP, hK, hD0⟩ := hv
  subst hsz
  have hts := atoms_spec (ws := .code y b nL (some rt) :: gw_tbl) B.pre
  have hown : s.vm.findClass own = some m.cls := by rw [← hc]; exact findClass_of_methodNamed B.named
  have hl := lv_entry (.ref (ad 0) :: av) (n := nL) (by simpa [lg_sl, Value.category] using hn)
  rw [lg_entry_eq]
  exact h D ad cs σ hpre p e s m _ below meth c _ ⟨B.exec, B.bytes, hml, hown, fun w hw => hts w (List.mem_cons_of_mem _ hw)⟩ B.returns B.notSynchronized ⟨hK, hP, hD0.self, va_S.rf, fun q h => Or.inr h⟩ _ hl
theorem rCv.mk {wf : wfT} {tf : tfT} {l : Launch} {y : MethodName} {b : ByteArray} {nL : Nat} {fr lo : Nat} {av : List Value} {Pre : St → Prop} {Post : St → St → Prop} (own : String) (hy : plainName y.cls = true) (hc : y.cls = own) (hn : (lg_sl (.ref 0 :: av)).length ≤ nL)
    (h : ∀ (D : va_G) (ad : Nat → Nat) (cs : Nat → ClassId) (σ : St), Pre σ → ∀ (p : Program) (e : Env) (s : State) (mi : MethodId) (args : Array Value) (below : List Frame) (meth : Method) (c : Code) (A : Nat → Prop), CallFix p mi c b nL s args gw_tbl own → meth.sig.returnType = none → meth.locks = false → rW wf tf D ad cs A s σ s.heap [] →
      ∀ ls : Array Slot, lv_has ls nL (lv_args 0 (.ref (ad 0) :: av)) → W p l e { frames := fr, cells := 0, slots := 0, locals := lo } s mi args below meth c s.heap [] 0 0 (MQ below (va_Qv (Post σ) (rB wf tf D ad cs A) A) args s 0 0 A) (F0 mi 0 ls [])) :
    rCv wf tf l y (.code y b nL none :: gw_tbl) fr lo av Pre Post := by
  intro D ad cs sz σ hpre
  refine Met.ofW (cc := b) (maxL := nL) (ret := none) hy rfl ?_
  intro p e s m args below meth c s₁ B hml hv
  obtain ⟨rfl, hsz, hP, hK, hD0⟩ := hv
  subst hsz
  have hts := atoms_spec (ws := .code y b nL none :: gw_tbl) B.pre
  have hown : s.vm.findClass own = some m.cls := by rw [← hc]; exact findClass_of_methodNamed B.named
  have hl := lv_entry (.ref (ad 0) :: av) (n := nL) (by simpa [lg_sl, Value.category] using hn)
  rw [lg_entry_eq]
  exact h D ad cs σ hpre p e s m _ below meth c _ ⟨B.exec, B.bytes, hml, hown, fun w hw => hts w (List.mem_cons_of_mem _ hw)⟩ B.returns B.notSynchronized ⟨hK, hP, hD0.self, va_S.rf, fun q h => Or.inr h⟩ _ hl
theorem rCs.mk {l : Launch} {y : MethodName} {b : ByteArray} {nL : Nat} {rt : FieldType} {fr lo : Nat} {av : List Value} {r : Int32} (own : String) (hy : plainName y.cls = true) (hc : y.cls = own) (hn : (lg_sl av).length ≤ nL)
    (h : ∀ (p : Program) (e : Env) (s : State) (mi : MethodId) (args : Array Value) (below : List Frame) (meth : Method) (c : Code), CallFix p mi c b nL s args gw_tbl own → meth.sig.returnType = some rt → meth.locks = false →
      ∀ ls : Array Slot, lv_has ls nL (lv_args 0 av) → W p l e { frames := fr, cells := 0, slots := 0, locals := lo } s mi args below meth c s.heap [] 0 0 (MQ below (QcRead r) args s 0 0 (fun _ => False)) (F0 mi 0 ls [])) :
    rCs l y (.code y b nL (some rt) :: gw_tbl) fr lo av r := by
  refine Met.ofW (cc := b) (maxL := nL) (ret := some rt) hy rfl ?_
  intro p e s m args below meth c s₁ B hml hv
  subst hv
  have hts := atoms_spec (ws := .code y b nL (some rt) :: gw_tbl) B.pre
  have hown : s.vm.findClass own = some m.cls := by rw [← hc]; exact findClass_of_methodNamed B.named
  have hl := lv_entry av (n := nL) hn
  rw [lg_entry_eq]
  exact h p e s m _ below meth c ⟨B.exec, B.bytes, hml, hown, fun w hw => hts w (List.mem_cons_of_mem _ hw)⟩ B.returns B.notSynchronized _ hl
/-- what a call of an instance method needs of the tables -/
def rLk (own : String) (idx : Nat) (C : String) (y : MethodName) (b : ByteArray) (nL : Nat) (ret : Option FieldType) (n : Nat) : Prop :=
  Cond.methodLink own idx y ∈ gw_tbl ∧ Cond.instanceMethod y ∈ gw_tbl ∧ Cond.selects C y y ∈ gw_tbl ∧ Cond.initialized C ∈ gw_tbl ∧ Cond.code y b nL ret ∈ gw_tbl ∧
  (y.cls = C ∧ y.cls ≠ "java/lang/invoke/MethodHandle" ∧ y.cls ≠ "java/lang/invoke/VarHandle" ∧ (parseMethodDescriptor y.desc).map (fun d => d.parameters.length) = some n)
def rLs (own : String) (idx : Nat) (y : MethodName) (b : ByteArray) (nL : Nat) (ret : Option FieldType) (n : Nat) : Prop :=
  Cond.methodLink own idx y ∈ gw_tbl ∧ Cond.static y ∈ gw_tbl ∧ Cond.initialized own ∈ gw_tbl ∧ Cond.code y b nL ret ∈ gw_tbl ∧
  (y.cls = own ∧ y.cls ≠ "java/lang/invoke/MethodHandle" ∧ y.cls ≠ "java/lang/invoke/VarHandle" ∧ (parseMethodDescriptor y.desc).map (fun d => d.parameters.length) = some n)
theorem rLk.good {own : String} {idx : Nat} {C : String} {y : MethodName} {b : ByteArray} {nL : Nat} {ret : Option FieldType} {n : Nat} (h : rLk own idx C y b nL ret n) : GoodIn gw_tbl (wsV own idx C y (.code y b nL ret :: gw_tbl)) := by
  obtain ⟨h1, h2, h3, h4, h5, -⟩ := h
  have key : ∀ w ∈ wsV own idx C y (.code y b nL ret :: gw_tbl), w ∈ gw_tbl := by
    intro w hw
    simp only [wsV, List.mem_append, List.mem_cons, List.not_mem_nil, or_false] at hw
    rcases hw with (rfl | rfl | rfl | rfl) | rfl | hw
    · exact h1
    · exact h2
    · exact h3
    · exact h4
    · exact h5
    · exact hw
  exact fun w hw => ⟨key w hw, lw_good w (key w hw)⟩
theorem rLs.good {own : String} {idx : Nat} {y : MethodName} {b : ByteArray} {nL : Nat} {ret : Option FieldType} {n : Nat} (h : rLs own idx y b nL ret n) : GoodIn gw_tbl (wsS own idx y (.code y b nL ret :: gw_tbl)) := by
  obtain ⟨h1, h2, h3, h4, -⟩ := h
  have key : ∀ w ∈ wsS own idx y (.code y b nL ret :: gw_tbl), w ∈ gw_tbl := by
    intro w hw
    simp only [wsS, List.mem_append, List.mem_cons, List.not_mem_nil, or_false] at hw
    rcases hw with (rfl | rfl | rfl) | rfl | hw
    · exact h1
    · exact h2
    · exact h3
    · exact h4
    · exact hw
  exact fun w hw => ⟨key w hw, lw_good w (key w hw)⟩
section ROWS
variable {p : Program} {l : Launch} {e : Env} {R : Room} {s : State} {m : MethodId} {args : Array Value} {below : List Frame} {meth : Method} {c : Code} {H : Heap} {locs : List Loc} {Q : State → Prop} {cells slots : Nat}
variable {cc : ByteArray} {nL pc : Nat} {ls : Array Slot} {rest : List Value} {own : String} {wf : wfT} {tf : tfT} {D : va_G} {ad : Nat → Nat} {cs : Nat → ClassId} {A : Nat → Prop} {σ : St}
theorem rW.free (hw : rW wf tf D ad cs A s σ H locs) : ∀ q, va_A (wf ad cs σ) H.size q → A q := fun q h => h.elim (fun ⟨k, e, hk⟩ => hw.2.2.1.2 k (q, e) hk) (fun h => hw.2.2.2.2 q (Nat.le_trans hw.2.2.2.1.1 h))
/-- a call of an instance method on the object itself -/
theorem r_calli {y : MethodName} {b : ByteArray} {nL' fr lo idx n ci N : Nat} {C : String} {T : u_T} {rt : FieldType} {av fs : List Value} {Pre : St → Prop} {Post : St → Int32 → St → Prop} {st : List Value}
    (S : CallFix p m c cc nL s args gw_tbl own) (hw : rW wf tf D ad cs A s σ H locs) (G : rLk own idx C y b nL' (some rt) n) (hM : rCi wf tf l y (.code y b nL' (some rt) :: gw_tbl) fr lo av Pre Post) (hpre : Pre σ)
    (h0 : (wf ad cs σ)[0]? = some (ad 0, .inr (ci, fs))) (hc : classes[ci]? = some (C, T, N)) (hR : fr + 1 ≤ R.frames ∧ 8 + (nL' + 11) + lo ≤ R.locals) (hn : av.length = n) (hls : ls.size = nL) (hst : st = av.reverse ++ .ref (ad 0) :: rest) (hrest : (rest.map fun v => v.category).sum ≤ 8) (hcl : cells ≤ R.cells ∧ slots ≤ R.slots) (hdg : decode cc pc = .ok (.invokevirtual idx, 3))
    (kk : ∀ (r : Int32) (σ' : St) (H' : Heap) (locs' : List Loc), Post σ r σ' → rW wf tf D ad cs A s σ' H' locs' → W p l e R s m args below meth c H' locs' cells slots Q (F0 m (pc + 3) ls (.int r :: rest))) : W p l e R s m args below meth c H locs cells slots Q (F0 m pc ls st) := by
  have hF := hw.free
  obtain ⟨hK, hP, hD, hS, hA⟩ := hw
  refine va_calli (mc := 0) (ms := 0) (A1 := va_A (wf ad cs σ) H.size) (free := va_A (wf ad cs σ) H.size) (va_runV (C := C) (bytes := b) (maxL := nL') (ret := some rt) (As := av) (rest := rest) (b := ad 0) S (hM D ad cs H.size σ hpre) (cwV n S.2.2.2.2 G.good rfl rfl rfl G.2.2.2.2.2 hR) ⟨fun a U g mk q => by obtain ⟨q0, q1, qP, qK, qD⟩ := q; exact ⟨q0, q1, qP, va_K.moved (u := U) (U := U.calling g mk a) (Vm.Alike.refl U.vm) qK, qD⟩, va_recv hK hP hc h0, fun U hU hW => ⟨rfl, by rw [hU], by rw [hU]; exact hP, va_K.moved hW.alike hK, hD.weaken (fun _ _ _ _ => trivial)⟩⟩ rfl hn hls hst (lv_room hrest) hdg hcl) hS (fun q _ h => hF q h) hF (fun r u t H1 locs1 ht hvm hpost hB hz1 hk1 hS1 => ?_)
  obtain ⟨hP1, hK1, hD1⟩ := hB
  rw [ht] at hP1
  exact kk r u H1 locs1 hpost ⟨hK, hP1, hD1.weaken (fun k q _ h => hF _ h), hS1, hA⟩
theorem r_callv {y : MethodName} {b : ByteArray} {nL' fr lo idx n ci N : Nat} {C : String} {T : u_T} {av fs : List Value} {Pre : St → Prop} {Post : St → St → Prop} {st : List Value}
    (S : CallFix p m c cc nL s args gw_tbl own) (hw : rW wf tf D ad cs A s σ H locs) (G : rLk own idx C y b nL' none n) (hM : rCv wf tf l y (.code y b nL' none :: gw_tbl) fr lo av Pre Post) (hpre : Pre σ)
    (h0 : (wf ad cs σ)[0]? = some (ad 0, .inr (ci, fs))) (hc : classes[ci]? = some (C, T, N)) (hR : fr + 1 ≤ R.frames ∧ 8 + (nL' + 11) + lo ≤ R.locals) (hn : av.length = n) (hls : ls.size = nL) (hst : st = av.reverse ++ .ref (ad 0) :: rest) (hrest : (rest.map fun v => v.category).sum ≤ 8) (hcl : cells ≤ R.cells ∧ slots ≤ R.slots) (hdg : decode cc pc = .ok (.invokevirtual idx, 3))
    (kk : ∀ (σ' : St) (H' : Heap) (locs' : List Loc), Post σ σ' → rW wf tf D ad cs A s σ' H' locs' → W p l e R s m args below meth c H' locs' cells slots Q (F0 m (pc + 3) ls rest)) : W p l e R s m args below meth c H locs cells slots Q (F0 m pc ls st) := by
  have hF := hw.free
  obtain ⟨hK, hP, hD, hS, hA⟩ := hw
  refine va_callv (mc := 0) (ms := 0) (A1 := va_A (wf ad cs σ) H.size) (free := va_A (wf ad cs σ) H.size) (va_runV (C := C) (bytes := b) (maxL := nL') (ret := none) (As := av) (rest := rest) (b := ad 0) S (hM D ad cs H.size σ hpre) (cwV n S.2.2.2.2 G.good rfl rfl rfl G.2.2.2.2.2 hR) ⟨fun a U g mk q => by obtain ⟨q0, q1, qP, qK, qD⟩ := q; exact ⟨q0, q1, qP, va_K.moved (u := U) (U := U.calling g mk a) (Vm.Alike.refl U.vm) qK, qD⟩, va_recv hK hP hc h0, fun U hU hW => ⟨rfl, by rw [hU], by rw [hU]; exact hP, va_K.moved hW.alike hK, hD.weaken (fun _ _ _ _ => trivial)⟩⟩ rfl hn hls hst (lv_room hrest) hdg hcl) hS (fun q _ h => hF q h) hF (fun u t H1 locs1 ht hvm hpost hB hz1 hk1 hS1 => ?_)
  obtain ⟨hP1, hK1, hD1⟩ := hB
  rw [ht] at hP1
  exact kk u H1 locs1 hpost ⟨hK, hP1, hD1.weaken (fun k q _ h => hF _ h), hS1, hA⟩
theorem r_calls {y : MethodName} {b : ByteArray} {nL' fr lo idx n : Nat} {rt : FieldType} {av : List Value} {r : Int32} {st : List Value}
    (S : CallFix p m c cc nL s args gw_tbl own) (G : rLs own idx y b nL' (some rt) n) (hM : rCs l y (.code y b nL' (some rt) :: gw_tbl) fr lo av r)
    (hR : fr + 1 ≤ R.frames ∧ 8 + (nL' + 11) + lo ≤ R.locals) (hn : av.length = n) (hls : ls.size = nL) (hst : st = av.reverse ++ rest) (hrest : (rest.map fun v => v.category).sum ≤ 8) (hcl : cells ≤ R.cells ∧ slots ≤ R.slots) (hdg : decode cc pc = .ok (.invokestatic idx, 3))
    (kk : W p l e R s m args below meth c H locs cells slots Q (F0 m (pc + 3) ls (.int r :: rest))) : W p l e R s m args below meth c H locs cells slots Q (F0 m pc ls st) :=
  W.callR (W.runS (bytes := b) (maxL := nL') (ret := some rt) (As := av) (rest := rest) S hM (cwS n S.2.2.2.2 G.good rfl rfl rfl G.2.2.2.2 hR) preEq rfl hn hls hst (lv_room hrest) hdg hcl) kk
theorem r_iret {P : Int32 → St → Prop} {r : Int32} (S : CallFix p m c cc nL s args gw_tbl own) (hr : meth.sig.returnType = some .int) (hlk : meth.locks = false) (hw : rW wf tf D ad cs A s σ H locs) (hdg : decode cc pc = .ok (.ireturn, 1)) (hp : P r σ) :
    W p l e R s m args below meth c H locs 0 0 (MQ below (va_Qi P (rB wf tf D ad cs A) A) args s 0 0 A) (F0 m pc ls [.int r]) :=
  W.iret (v := r) S.1 S.2.1 hr (fun t ht hW => ⟨⟨r, σ, rfl, hp, by rw [ht]; exact hw.2.1, va_K.moved hW.alike hw.1, hw.2.2.1⟩, hw.2.2.2.1.F ht⟩) hw.2.2.2.1.2.2 hdg hlk
theorem r_zret {P : Int32 → St → Prop} {r : Int32} (S : CallFix p m c cc nL s args gw_tbl own) (hr : meth.sig.returnType = some .boolean) (hlk : meth.locks = false) (hw : rW wf tf D ad cs A s σ H locs) (hdg : decode cc pc = .ok (.ireturn, 1)) (hB : isB r) (hp : P r σ) :
    W p l e R s m args below meth c H locs 0 0 (MQ below (va_Qi P (rB wf tf D ad cs A) A) args s 0 0 A) (F0 m pc ls [.int r]) :=
  W.zret (v := r) S.1 S.2.1 hr (isB_nar hB) (fun t ht hW => ⟨⟨r, σ, rfl, hp, by rw [ht]; exact hw.2.1, va_K.moved hW.alike hw.1, hw.2.2.1⟩, hw.2.2.2.1.F ht⟩) hw.2.2.2.1.2.2 hdg hlk
theorem r_vret {P : St → Prop} (S : CallFix p m c cc nL s args gw_tbl own) (hr : meth.sig.returnType = none) (hlk : meth.locks = false) (hw : rW wf tf D ad cs A s σ H locs) (hdg : decode cc pc = .ok (.return_, 1)) (hp : P σ) :
    W p l e R s m args below meth c H locs 0 0 (MQ below (va_Qv P (rB wf tf D ad cs A) A) args s 0 0 A) (F0 m pc ls []) :=
  W.vret S.1 S.2.1 hr (fun t ht hW => ⟨⟨σ, rfl, hp, by rw [ht]; exact hw.2.1, va_K.moved hW.alike hw.1, hw.2.2.1⟩, hw.2.2.2.1.F ht⟩) hw.2.2.2.1.2.2 hdg hlk
theorem s_iret {r v : Int32} (S : CallFix p m c cc nL s args gw_tbl own) (hr : meth.sig.returnType = some .int) (hlk : meth.locks = false) (hdg : decode cc pc = .ok (.ireturn, 1)) (hp : v = r) :
    W p l e R s m args below meth c s.heap [] 0 0 (MQ below (QcRead r) args s 0 0 (fun _ => False)) (F0 m pc ls [.int v]) := by
  subst hp
  exact W.iret S.1 S.2.1 hr (fun t ht hW => ⟨rfl, ht⟩) (fun _ h => by cases h) hdg hlk
theorem s_zret {r v : Int32} (S : CallFix p m c cc nL s args gw_tbl own) (hr : meth.sig.returnType = some .boolean) (hlk : meth.locks = false) (hdg : decode cc pc = .ok (.ireturn, 1)) (hB : isB v) (hp : v = r) :
    W p l e R s m args below meth c s.heap [] 0 0 (MQ below (QcRead r) args s 0 0 (fun _ => False)) (F0 m pc ls [.int v]) := by
  subst hp
  exact W.zret S.1 S.2.1 hr (isB_nar hB) (fun t ht hW => ⟨rfl, ht⟩) (fun _ h => by cases h) hdg hlk
/-! numbers that are nI of a natural number -/
theorem ln_top {x y : Int32} (h : x = y) (k : W p l e R s m args below meth c H locs cells slots Q (F0 m pc ls (.int y :: rest))) : W p l e R s m args below meth c H locs cells slots Q (F0 m pc ls (.int x :: rest)) := h ▸ k
theorem ln_iadd (hx : p.tables.exec = Jvm.exec) (hb : c.code = cc) {a b : Nat} (hdg : decode cc pc = .ok (.iadd, 1)) (k : W p l e R s m args below meth c H locs cells slots Q (F0 m (pc + 1) ls (.int (nI (a + b)) :: rest))) : W p l e R s m args below meth c H locs cells slots Q (F0 m pc ls (.int (nI b) :: .int (nI a) :: rest)) :=
  lv_iadd hx hb hdg (ln_top (nI_add a b) k)
theorem ln_imul (hx : p.tables.exec = Jvm.exec) (hb : c.code = cc) {a b : Nat} (hdg : decode cc pc = .ok (.imul, 1)) (k : W p l e R s m args below meth c H locs cells slots Q (F0 m (pc + 1) ls (.int (nI (a * b)) :: rest))) : W p l e R s m args below meth c H locs cells slots Q (F0 m pc ls (.int (nI b) :: .int (nI a) :: rest)) :=
  lv_imul hx hb hdg (ln_top (pk_mul a b) k)
theorem ln_isub (hx : p.tables.exec = Jvm.exec) (hb : c.code = cc) {a b : Nat} (hdg : decode cc pc = .ok (.isub, 1)) (h : b ≤ a) (k : W p l e R s m args below meth c H locs cells slots Q (F0 m (pc + 1) ls (.int (nI (a - b)) :: rest))) : W p l e R s m args below meth c H locs cells slots Q (F0 m pc ls (.int (nI b) :: .int (nI a) :: rest)) :=
  lv_isub hx hb hdg (ln_top (pk_sub h) k)
theorem ln_idiv (hx : p.tables.exec = Jvm.exec) (hb : c.code = cc) {a b : Nat} (hdg : decode cc pc = .ok (.idiv, 1)) (h : a < 2 ^ 31 ∧ 0 < b ∧ b < 2 ^ 31) (k : W p l e R s m args below meth c H locs cells slots Q (F0 m (pc + 1) ls (.int (nI (a / b)) :: rest))) : W p l e R s m args below meth c H locs cells slots Q (F0 m pc ls (.int (nI b) :: .int (nI a) :: rest)) :=
  lv_idiv hx hb hdg (nI_ne0 h.2.1 h.2.2) (ln_top (pk_div h.1 h.2.1 h.2.2) k)
theorem ln_irem (hx : p.tables.exec = Jvm.exec) (hb : c.code = cc) {a b : Nat} (hdg : decode cc pc = .ok (.irem, 1)) (h : a < 2 ^ 31 ∧ 0 < b ∧ b < 2 ^ 31) (k : W p l e R s m args below meth c H locs cells slots Q (F0 m (pc + 1) ls (.int (nI (a % b)) :: rest))) : W p l e R s m args below meth c H locs cells slots Q (F0 m pc ls (.int (nI b) :: .int (nI a) :: rest)) :=
  lv_irem hx hb hdg (nI_ne0 h.2.1 h.2.2) (ln_top (pk_rem h.1 h.2.1 h.2.2) k)
theorem ln_icmp_eq (hx : p.tables.exec = Jvm.exec) (hb : c.code = cc) {a b : Nat} {off : Int} {tgt : Nat} (hdg : decode cc pc = .ok (.if_icmp .eq off, 3)) (ht : (pc : Int) + off = (tgt : Int)) (h : a < 2 ^ 31 ∧ b < 2 ^ 31) (kt : a = b → W p l e R s m args below meth c H locs cells slots Q (F0 m tgt ls rest)) (kf : ¬ a = b → W p l e R s m args below meth c H locs cells slots Q (F0 m (pc + 3) ls rest)) : W p l e R s m args below meth c H locs cells slots Q (F0 m pc ls (.int (nI b) :: .int (nI a) :: rest)) :=
  lv_icmp_eq hx hb hdg ht (fun q => kt ((nI_eq h.1 h.2).mp q)) (fun q => kf (fun z => q ((nI_eq h.1 h.2).mpr z)))
theorem ln_icmp_ne (hx : p.tables.exec = Jvm.exec) (hb : c.code = cc) {a b : Nat} {off : Int} {tgt : Nat} (hdg : decode cc pc = .ok (.if_icmp .ne off, 3)) (ht : (pc : Int) + off = (tgt : Int)) (h : a < 2 ^ 31 ∧ b < 2 ^ 31) (kt : ¬ a = b → W p l e R s m args below meth c H locs cells slots Q (F0 m tgt ls rest)) (kf : a = b → W p l e R s m args below meth c H locs cells slots Q (F0 m (pc + 3) ls rest)) : W p l e R s m args below meth c H locs cells slots Q (F0 m pc ls (.int (nI b) :: .int (nI a) :: rest)) :=
  lv_icmp_ne hx hb hdg ht (fun q => kt (fun z => q ((nI_eq h.1 h.2).mpr z))) (fun q => kf ((nI_eq h.1 h.2).mp q))
theorem ln_icmp_lt (hx : p.tables.exec = Jvm.exec) (hb : c.code = cc) {a b : Nat} {off : Int} {tgt : Nat} (hdg : decode cc pc = .ok (.if_icmp .lt off, 3)) (ht : (pc : Int) + off = (tgt : Int)) (h : a < 2 ^ 31 ∧ b < 2 ^ 31) (kt : a < b → W p l e R s m args below meth c H locs cells slots Q (F0 m tgt ls rest)) (kf : b ≤ a → W p l e R s m args below meth c H locs cells slots Q (F0 m (pc + 3) ls rest)) : W p l e R s m args below meth c H locs cells slots Q (F0 m pc ls (.int (nI b) :: .int (nI a) :: rest)) :=
  lv_icmp_lt hx hb hdg ht (fun q => kt ((nI_ltI h.1 h.2).mp q)) (fun q => kf (Nat.not_lt.mp fun z => q ((nI_ltI h.1 h.2).mpr z)))
theorem ln_icmp_ge (hx : p.tables.exec = Jvm.exec) (hb : c.code = cc) {a b : Nat} {off : Int} {tgt : Nat} (hdg : decode cc pc = .ok (.if_icmp .ge off, 3)) (ht : (pc : Int) + off = (tgt : Int)) (h : a < 2 ^ 31 ∧ b < 2 ^ 31) (kt : b ≤ a → W p l e R s m args below meth c H locs cells slots Q (F0 m tgt ls rest)) (kf : a < b → W p l e R s m args below meth c H locs cells slots Q (F0 m (pc + 3) ls rest)) : W p l e R s m args below meth c H locs cells slots Q (F0 m pc ls (.int (nI b) :: .int (nI a) :: rest)) :=
  lv_icmp_ge hx hb hdg ht (fun q => kt ((nI_leI h.2 h.1).mp q)) (fun q => kf (Nat.not_le.mp fun z => q ((nI_leI h.2 h.1).mpr z)))
theorem ln_icmp_gt (hx : p.tables.exec = Jvm.exec) (hb : c.code = cc) {a b : Nat} {off : Int} {tgt : Nat} (hdg : decode cc pc = .ok (.if_icmp .gt off, 3)) (ht : (pc : Int) + off = (tgt : Int)) (h : a < 2 ^ 31 ∧ b < 2 ^ 31) (kt : b < a → W p l e R s m args below meth c H locs cells slots Q (F0 m tgt ls rest)) (kf : a ≤ b → W p l e R s m args below meth c H locs cells slots Q (F0 m (pc + 3) ls rest)) : W p l e R s m args below meth c H locs cells slots Q (F0 m pc ls (.int (nI b) :: .int (nI a) :: rest)) :=
  lv_icmp_gt hx hb hdg ht (fun q => kt ((nI_ltI h.2 h.1).mp q)) (fun q => kf (Nat.not_lt.mp fun z => q ((nI_ltI h.2 h.1).mpr z)))
theorem ln_icmp_le (hx : p.tables.exec = Jvm.exec) (hb : c.code = cc) {a b : Nat} {off : Int} {tgt : Nat} (hdg : decode cc pc = .ok (.if_icmp .le off, 3)) (ht : (pc : Int) + off = (tgt : Int)) (h : a < 2 ^ 31 ∧ b < 2 ^ 31) (kt : a ≤ b → W p l e R s m args below meth c H locs cells slots Q (F0 m tgt ls rest)) (kf : b < a → W p l e R s m args below meth c H locs cells slots Q (F0 m (pc + 3) ls rest)) : W p l e R s m args below meth c H locs cells slots Q (F0 m pc ls (.int (nI b) :: .int (nI a) :: rest)) :=
  lv_icmp_le hx hb hdg ht (fun q => kt ((nI_leI h.1 h.2).mp q)) (fun q => kf (Nat.not_le.mp fun z => q ((nI_leI h.1 h.2).mpr z)))
theorem ln_iinc (hx : p.tables.exec = Jvm.exec) (hb : c.code = cc) {i k n : Nat} {z : Int} {lv lv' : List (Nat × Value)} (hdg : decode cc pc = .ok (.iinc i z, 3)) (h : lv_has ls nL lv) (hk : lv[k]? = some (i, .int (nI n))) (hz : Int32.ofInt z = 1) (hn : i < nL) (hl : (i, Value.int (nI (n + 1))) :: lv.filter (fun q => !(q.1 == i) && !(q.1 + 1 == i && q.2.category == 2)) = lv')
    (kk : ∀ ls' : Array Slot, lv_has ls' nL lv' → W p l e R s m args below meth c H locs cells slots Q (F0 m (pc + 3) ls' rest)) : W p l e R s m args below meth c H locs cells slots Q (F0 m pc ls rest) :=
  lv_iinc hx hb hdg h hk (by rw [hz]; exact nI_1 n) hn hl kk
theorem rg_0 (S : CallFix p m c cc nL s args gw_tbl R_rr) (hw : rW wr tr_ D ad cs A s σ H locs) (hdg : decode cc pc = .ok (.getfield 7, 3)) (k : W p l e R s m args below meth c H locs cells slots Q (F0 m (pc + 3) ls (.int (σ 0 0) :: rest))) : W p l e R s m args below meth c H locs cells slots Q (F0 m pc ls (.ref (ad 0) :: rest)) :=
  va_get (D := D) (ci := 0) (v := .int (σ 0 0)) (C := R_rr) (T := F_rr) (N := 21) S.1 S.2.1 S.2.2.2.2 i_rr S.2.2.2.1 hw.1 hw.2.1 0 rfl rfl 0 (by decide) (S.2.2.2.2 _ q_rr_f0) (fun _ h9 => h9) rfl hdg k
theorem rp_0 {v : Int32} (S : CallFix p m c cc nL s args gw_tbl R_rr) (hw : rW wr tr_ D ad cs A s σ H locs) (hdg : decode cc pc = .ok (.putfield 7, 3)) (k : ∀ (H' : Heap) (locs' : List Loc), rW wr tr_ D ad cs A s (up2 σ 0 0 v) H' locs' → W p l e R s m args below meth c H' locs' cells slots Q (F0 m (pc + 3) ls rest)) : W p l e R s m args below meth c H locs cells slots Q (F0 m pc ls (.int v :: .ref (ad 0) :: rest)) :=
  va_put (D := D) (ci := 0) (v := .int v) (ty := .int) (C := R_rr) (T := F_rr) (N := 21) S.1 S.2.1 S.2.2.2.2 i_rr t_rr t_rr_ok n_rr S.2.2.2.1 hw.1 hw.2.1 hw.2.2.1 hw.2.2.2.1 0 rfl rfl 0 (by decide) (S.2.2.2.2 _ q_rr_f0) (fun _ h9 => h9) rfl (by decide +kernel) rfl rfl (Nat.le_of_ble_eq_true rfl) hdg (fun H1 locs1 hP hD hS => k H1 locs1 ⟨hw.1, hP, hD, hS, hw.2.2.2.2⟩)
theorem rg_1 (S : CallFix p m c cc nL s args gw_tbl R_rr) (hw : rW wr tr_ D ad cs A s σ H locs) (hdg : decode cc pc = .ok (.getfield 13, 3)) (k : W p l e R s m args below meth c H locs cells slots Q (F0 m (pc + 3) ls (.int (σ 0 1) :: rest))) : W p l e R s m args below meth c H locs cells slots Q (F0 m pc ls (.ref (ad 0) :: rest)) :=
  va_get (D := D) (ci := 0) (v := .int (σ 0 1)) (C := R_rr) (T := F_rr) (N := 21) S.1 S.2.1 S.2.2.2.2 i_rr S.2.2.2.1 hw.1 hw.2.1 0 rfl rfl 1 (by decide) (S.2.2.2.2 _ q_rr_f1) (fun _ h9 => h9) rfl hdg k
theorem rp_1 {v : Int32} (S : CallFix p m c cc nL s args gw_tbl R_rr) (hw : rW wr tr_ D ad cs A s σ H locs) (hdg : decode cc pc = .ok (.putfield 13, 3)) (k : ∀ (H' : Heap) (locs' : List Loc), rW wr tr_ D ad cs A s (up2 σ 0 1 v) H' locs' → W p l e R s m args below meth c H' locs' cells slots Q (F0 m (pc + 3) ls rest)) : W p l e R s m args below meth c H locs cells slots Q (F0 m pc ls (.int v :: .ref (ad 0) :: rest)) :=
  va_put (D := D) (ci := 0) (v := .int v) (ty := .int) (C := R_rr) (T := F_rr) (N := 21) S.1 S.2.1 S.2.2.2.2 i_rr t_rr t_rr_ok n_rr S.2.2.2.1 hw.1 hw.2.1 hw.2.2.1 hw.2.2.2.1 0 rfl rfl 1 (by decide) (S.2.2.2.2 _ q_rr_f1) (fun _ h9 => h9) rfl (by decide +kernel) rfl rfl (Nat.le_of_ble_eq_true rfl) hdg (fun H1 locs1 hP hD hS => k H1 locs1 ⟨hw.1, hP, hD, hS, hw.2.2.2.2⟩)
theorem rg_2 (S : CallFix p m c cc nL s args gw_tbl R_rr) (hw : rW wr tr_ D ad cs A s σ H locs) (hdg : decode cc pc = .ok (.getfield 63, 3)) (k : W p l e R s m args below meth c H locs cells slots Q (F0 m (pc + 3) ls (.int (σ 0 2) :: rest))) : W p l e R s m args below meth c H locs cells slots Q (F0 m pc ls (.ref (ad 0) :: rest)) :=
  va_get (D := D) (ci := 0) (v := .int (σ 0 2)) (C := R_rr) (T := F_rr) (N := 21) S.1 S.2.1 S.2.2.2.2 i_rr S.2.2.2.1 hw.1 hw.2.1 0 rfl rfl 2 (by decide) (S.2.2.2.2 _ q_rr_f2) (fun _ h9 => h9) rfl hdg k
theorem rp_2 {v : Int32} (S : CallFix p m c cc nL s args gw_tbl R_rr) (hw : rW wr tr_ D ad cs A s σ H locs) (hdg : decode cc pc = .ok (.putfield 63, 3)) (k : ∀ (H' : Heap) (locs' : List Loc), rW wr tr_ D ad cs A s (up2 σ 0 2 v) H' locs' → W p l e R s m args below meth c H' locs' cells slots Q (F0 m (pc + 3) ls rest)) : W p l e R s m args below meth c H locs cells slots Q (F0 m pc ls (.int v :: .ref (ad 0) :: rest)) :=
  va_put (D := D) (ci := 0) (v := .int v) (ty := .int) (C := R_rr) (T := F_rr) (N := 21) S.1 S.2.1 S.2.2.2.2 i_rr t_rr t_rr_ok n_rr S.2.2.2.1 hw.1 hw.2.1 hw.2.2.1 hw.2.2.2.1 0 rfl rfl 2 (by decide) (S.2.2.2.2 _ q_rr_f2) (fun _ h9 => h9) rfl (by decide +kernel) rfl rfl (Nat.le_of_ble_eq_true rfl) hdg (fun H1 locs1 hP hD hS => k H1 locs1 ⟨hw.1, hP, hD, hS, hw.2.2.2.2⟩)
theorem rg_3 (S : CallFix p m c cc nL s args gw_tbl R_rr) (hw : rW wr tr_ D ad cs A s σ H locs) (hdg : decode cc pc = .ok (.getfield 16, 3)) (k : W p l e R s m args below meth c H locs cells slots Q (F0 m (pc + 3) ls (.ref (ad 3) :: rest))) : W p l e R s m args below meth c H locs cells slots Q (F0 m pc ls (.ref (ad 0) :: rest)) :=
  va_get (D := D) (ci := 0) (v := .ref (ad 3)) (C := R_rr) (T := F_rr) (N := 21) S.1 S.2.1 S.2.2.2.2 i_rr S.2.2.2.1 hw.1 hw.2.1 0 rfl rfl 3 (by decide) (S.2.2.2.2 _ q_rr_f3) (fun _ h9 => h9) rfl hdg k
theorem rg_4 (S : CallFix p m c cc nL s args gw_tbl R_rr) (hw : rW wr tr_ D ad cs A s σ H locs) (hdg : decode cc pc = .ok (.getfield 20, 3)) (k : W p l e R s m args below meth c H locs cells slots Q (F0 m (pc + 3) ls (.ref (ad 4) :: rest))) : W p l e R s m args below meth c H locs cells slots Q (F0 m pc ls (.ref (ad 0) :: rest)) :=
  va_get (D := D) (ci := 0) (v := .ref (ad 4)) (C := R_rr) (T := F_rr) (N := 21) S.1 S.2.1 S.2.2.2.2 i_rr S.2.2.2.1 hw.1 hw.2.1 0 rfl rfl 4 (by decide) (S.2.2.2.2 _ q_rr_f4) (fun _ h9 => h9) rfl hdg k
theorem rg_5 (S : CallFix p m c cc nL s args gw_tbl R_rr) (hw : rW wr tr_ D ad cs A s σ H locs) (hdg : decode cc pc = .ok (.getfield 24, 3)) (k : W p l e R s m args below meth c H locs cells slots Q (F0 m (pc + 3) ls (.ref (ad 5) :: rest))) : W p l e R s m args below meth c H locs cells slots Q (F0 m pc ls (.ref (ad 0) :: rest)) :=
  va_get (D := D) (ci := 0) (v := .ref (ad 5)) (C := R_rr) (T := F_rr) (N := 21) S.1 S.2.1 S.2.2.2.2 i_rr S.2.2.2.1 hw.1 hw.2.1 0 rfl rfl 5 (by decide) (S.2.2.2.2 _ q_rr_f5) (fun _ h9 => h9) rfl hdg k
theorem rg_6 (S : CallFix p m c cc nL s args gw_tbl R_rr) (hw : rW wr tr_ D ad cs A s σ H locs) (hdg : decode cc pc = .ok (.getfield 27, 3)) (k : W p l e R s m args below meth c H locs cells slots Q (F0 m (pc + 3) ls (.ref (ad 6) :: rest))) : W p l e R s m args below meth c H locs cells slots Q (F0 m pc ls (.ref (ad 0) :: rest)) :=
  va_get (D := D) (ci := 0) (v := .ref (ad 6)) (C := R_rr) (T := F_rr) (N := 21) S.1 S.2.1 S.2.2.2.2 i_rr S.2.2.2.1 hw.1 hw.2.1 0 rfl rfl 6 (by decide) (S.2.2.2.2 _ q_rr_f6) (fun _ h9 => h9) rfl hdg k
theorem rg_7 (S : CallFix p m c cc nL s args gw_tbl R_rr) (hw : rW wr tr_ D ad cs A s σ H locs) (hdg : decode cc pc = .ok (.getfield 30, 3)) (k : W p l e R s m args below meth c H locs cells slots Q (F0 m (pc + 3) ls (.ref (ad 7) :: rest))) : W p l e R s m args below meth c H locs cells slots Q (F0 m pc ls (.ref (ad 0) :: rest)) :=
  va_get (D := D) (ci := 0) (v := .ref (ad 7)) (C := R_rr) (T := F_rr) (N := 21) S.1 S.2.1 S.2.2.2.2 i_rr S.2.2.2.1 hw.1 hw.2.1 0 rfl rfl 7 (by decide) (S.2.2.2.2 _ q_rr_f7) (fun _ h9 => h9) rfl hdg k
theorem rg_8 (S : CallFix p m c cc nL s args gw_tbl R_rr) (hw : rW wr tr_ D ad cs A s σ H locs) (hdg : decode cc pc = .ok (.getfield 34, 3)) (k : W p l e R s m args below meth c H locs cells slots Q (F0 m (pc + 3) ls (.ref (ad 8) :: rest))) : W p l e R s m args below meth c H locs cells slots Q (F0 m pc ls (.ref (ad 0) :: rest)) :=
  va_get (D := D) (ci := 0) (v := .ref (ad 8)) (C := R_rr) (T := F_rr) (N := 21) S.1 S.2.1 S.2.2.2.2 i_rr S.2.2.2.1 hw.1 hw.2.1 0 rfl rfl 8 (by decide) (S.2.2.2.2 _ q_rr_f8) (fun _ h9 => h9) rfl hdg k
theorem rg_9 (S : CallFix p m c cc nL s args gw_tbl R_rr) (hw : rW wr tr_ D ad cs A s σ H locs) (hdg : decode cc pc = .ok (.getfield 37, 3)) (k : W p l e R s m args below meth c H locs cells slots Q (F0 m (pc + 3) ls (.ref (ad 9) :: rest))) : W p l e R s m args below meth c H locs cells slots Q (F0 m pc ls (.ref (ad 0) :: rest)) :=
  va_get (D := D) (ci := 0) (v := .ref (ad 9)) (C := R_rr) (T := F_rr) (N := 21) S.1 S.2.1 S.2.2.2.2 i_rr S.2.2.2.1 hw.1 hw.2.1 0 rfl rfl 9 (by decide) (S.2.2.2.2 _ q_rr_f9) (fun _ h9 => h9) rfl hdg k
theorem rg_10 (S : CallFix p m c cc nL s args gw_tbl R_rr) (hw : rW wr tr_ D ad cs A s σ H locs) (hdg : decode cc pc = .ok (.getfield 40, 3)) (k : W p l e R s m args below meth c H locs cells slots Q (F0 m (pc + 3) ls (.ref (ad 10) :: rest))) : W p l e R s m args below meth c H locs cells slots Q (F0 m pc ls (.ref (ad 0) :: rest)) :=
  va_get (D := D) (ci := 0) (v := .ref (ad 10)) (C := R_rr) (T := F_rr) (N := 21) S.1 S.2.1 S.2.2.2.2 i_rr S.2.2.2.1 hw.1 hw.2.1 0 rfl rfl 10 (by decide) (S.2.2.2.2 _ q_rr_f10) (fun _ h9 => h9) rfl hdg k
theorem rg_11 (S : CallFix p m c cc nL s args gw_tbl R_rr) (hw : rW wr tr_ D ad cs A s σ H locs) (hdg : decode cc pc = .ok (.getfield 43, 3)) (k : W p l e R s m args below meth c H locs cells slots Q (F0 m (pc + 3) ls (.ref (ad 11) :: rest))) : W p l e R s m args below meth c H locs cells slots Q (F0 m pc ls (.ref (ad 0) :: rest)) :=
  va_get (D := D) (ci := 0) (v := .ref (ad 11)) (C := R_rr) (T := F_rr) (N := 21) S.1 S.2.1 S.2.2.2.2 i_rr S.2.2.2.1 hw.1 hw.2.1 0 rfl rfl 11 (by decide) (S.2.2.2.2 _ q_rr_f11) (fun _ h9 => h9) rfl hdg k
theorem rg_12 (S : CallFix p m c cc nL s args gw_tbl R_rr) (hw : rW wr tr_ D ad cs A s σ H locs) (hdg : decode cc pc = .ok (.getfield 97, 3)) (k : W p l e R s m args below meth c H locs cells slots Q (F0 m (pc + 3) ls (.int (σ 0 12) :: rest))) : W p l e R s m args below meth c H locs cells slots Q (F0 m pc ls (.ref (ad 0) :: rest)) :=
  va_get (D := D) (ci := 0) (v := .int (σ 0 12)) (C := R_rr) (T := F_rr) (N := 21) S.1 S.2.1 S.2.2.2.2 i_rr S.2.2.2.1 hw.1 hw.2.1 0 rfl rfl 12 (by decide) (S.2.2.2.2 _ q_rr_f12) (fun _ h9 => h9) rfl hdg k
theorem rp_12 {v : Int32} (S : CallFix p m c cc nL s args gw_tbl R_rr) (hw : rW wr tr_ D ad cs A s σ H locs) (hdg : decode cc pc = .ok (.putfield 97, 3)) (k : ∀ (H' : Heap) (locs' : List Loc), rW wr tr_ D ad cs A s (up2 σ 0 12 v) H' locs' → W p l e R s m args below meth c H' locs' cells slots Q (F0 m (pc + 3) ls rest)) : W p l e R s m args below meth c H locs cells slots Q (F0 m pc ls (.int v :: .ref (ad 0) :: rest)) :=
  va_put (D := D) (ci := 0) (v := .int v) (ty := .int) (C := R_rr) (T := F_rr) (N := 21) S.1 S.2.1 S.2.2.2.2 i_rr t_rr t_rr_ok n_rr S.2.2.2.1 hw.1 hw.2.1 hw.2.2.1 hw.2.2.2.1 0 rfl rfl 12 (by decide) (S.2.2.2.2 _ q_rr_f12) (fun _ h9 => h9) rfl (by decide +kernel) rfl rfl (Nat.le_of_ble_eq_true rfl) hdg (fun H1 locs1 hP hD hS => k H1 locs1 ⟨hw.1, hP, hD, hS, hw.2.2.2.2⟩)
theorem rg_13 (S : CallFix p m c cc nL s args gw_tbl R_rr) (hw : rW wr tr_ D ad cs A s σ H locs) (hdg : decode cc pc = .ok (.getfield 87, 3)) (k : W p l e R s m args below meth c H locs cells slots Q (F0 m (pc + 3) ls (.int (σ 0 13) :: rest))) : W p l e R s m args below meth c H locs cells slots Q (F0 m pc ls (.ref (ad 0) :: rest)) :=
  va_get (D := D) (ci := 0) (v := .int (σ 0 13)) (C := R_rr) (T := F_rr) (N := 21) S.1 S.2.1 S.2.2.2.2 i_rr S.2.2.2.1 hw.1 hw.2.1 0 rfl rfl 13 (by decide) (S.2.2.2.2 _ q_rr_f13) (fun _ h9 => h9) rfl hdg k
theorem rp_13 {v : Int32} (S : CallFix p m c cc nL s args gw_tbl R_rr) (hw : rW wr tr_ D ad cs A s σ H locs) (hdg : decode cc pc = .ok (.putfield 87, 3)) (k : ∀ (H' : Heap) (locs' : List Loc), rW wr tr_ D ad cs A s (up2 σ 0 13 v) H' locs' → W p l e R s m args below meth c H' locs' cells slots Q (F0 m (pc + 3) ls rest)) : W p l e R s m args below meth c H locs cells slots Q (F0 m pc ls (.int v :: .ref (ad 0) :: rest)) :=
  va_put (D := D) (ci := 0) (v := .int v) (ty := .int) (C := R_rr) (T := F_rr) (N := 21) S.1 S.2.1 S.2.2.2.2 i_rr t_rr t_rr_ok n_rr S.2.2.2.1 hw.1 hw.2.1 hw.2.2.1 hw.2.2.2.1 0 rfl rfl 13 (by decide) (S.2.2.2.2 _ q_rr_f13) (fun _ h9 => h9) rfl (by decide +kernel) rfl rfl (Nat.le_of_ble_eq_true rfl) hdg (fun H1 locs1 hP hD hS => k H1 locs1 ⟨hw.1, hP, hD, hS, hw.2.2.2.2⟩)
theorem rg_14 (S : CallFix p m c cc nL s args gw_tbl R_rr) (hw : rW wr tr_ D ad cs A s σ H locs) (hdg : decode cc pc = .ok (.getfield 90, 3)) (k : W p l e R s m args below meth c H locs cells slots Q (F0 m (pc + 3) ls (.int (σ 0 14) :: rest))) : W p l e R s m args below meth c H locs cells slots Q (F0 m pc ls (.ref (ad 0) :: rest)) :=
  va_get (D := D) (ci := 0) (v := .int (σ 0 14)) (C := R_rr) (T := F_rr) (N := 21) S.1 S.2.1 S.2.2.2.2 i_rr S.2.2.2.1 hw.1 hw.2.1 0 rfl rfl 14 (by decide) (S.2.2.2.2 _ q_rr_f14) (fun _ h9 => h9) rfl hdg k
theorem rp_14 {v : Int32} (S : CallFix p m c cc nL s args gw_tbl R_rr) (hw : rW wr tr_ D ad cs A s σ H locs) (hdg : decode cc pc = .ok (.putfield 90, 3)) (k : ∀ (H' : Heap) (locs' : List Loc), rW wr tr_ D ad cs A s (up2 σ 0 14 v) H' locs' → W p l e R s m args below meth c H' locs' cells slots Q (F0 m (pc + 3) ls rest)) : W p l e R s m args below meth c H locs cells slots Q (F0 m pc ls (.int v :: .ref (ad 0) :: rest)) :=
  va_put (D := D) (ci := 0) (v := .int v) (ty := .int) (C := R_rr) (T := F_rr) (N := 21) S.1 S.2.1 S.2.2.2.2 i_rr t_rr t_rr_ok n_rr S.2.2.2.1 hw.1 hw.2.1 hw.2.2.1 hw.2.2.2.1 0 rfl rfl 14 (by decide) (S.2.2.2.2 _ q_rr_f14) (fun _ h9 => h9) rfl (by decide +kernel) rfl rfl (Nat.le_of_ble_eq_true rfl) hdg (fun H1 locs1 hP hD hS => k H1 locs1 ⟨hw.1, hP, hD, hS, hw.2.2.2.2⟩)
theorem rg_15 (S : CallFix p m c cc nL s args gw_tbl R_rr) (hw : rW wr tr_ D ad cs A s σ H locs) (hdg : decode cc pc = .ok (.getfield 93, 3)) (k : W p l e R s m args below meth c H locs cells slots Q (F0 m (pc + 3) ls (.int (σ 0 15) :: rest))) : W p l e R s m args below meth c H locs cells slots Q (F0 m pc ls (.ref (ad 0) :: rest)) :=
  va_get (D := D) (ci := 0) (v := .int (σ 0 15)) (C := R_rr) (T := F_rr) (N := 21) S.1 S.2.1 S.2.2.2.2 i_rr S.2.2.2.1 hw.1 hw.2.1 0 rfl rfl 15 (by decide) (S.2.2.2.2 _ q_rr_f15) (fun _ h9 => h9) rfl hdg k
theorem rp_15 {v : Int32} (S : CallFix p m c cc nL s args gw_tbl R_rr) (hw : rW wr tr_ D ad cs A s σ H locs) (hdg : decode cc pc = .ok (.putfield 93, 3)) (hB : isB v) (k : ∀ (H' : Heap) (locs' : List Loc), rW wr tr_ D ad cs A s (up2 σ 0 15 v) H' locs' → W p l e R s m args below meth c H' locs' cells slots Q (F0 m (pc + 3) ls rest)) : W p l e R s m args below meth c H locs cells slots Q (F0 m pc ls (.int v :: .ref (ad 0) :: rest)) :=
  va_put (D := D) (ci := 0) (v := .int v) (ty := .boolean) (C := R_rr) (T := F_rr) (N := 21) S.1 S.2.1 S.2.2.2.2 i_rr t_rr t_rr_ok n_rr S.2.2.2.1 hw.1 hw.2.1 hw.2.2.1 hw.2.2.2.1 0 rfl rfl 15 (by decide) (S.2.2.2.2 _ q_rr_f15) (fun _ h9 => h9) rfl (by decide +kernel) (isB_nar hB) (isB_fit hB) (Nat.le_of_ble_eq_true rfl) hdg (fun H1 locs1 hP hD hS => k H1 locs1 ⟨hw.1, hP, hD, hS, hw.2.2.2.2⟩)
theorem rg_16 (S : CallFix p m c cc nL s args gw_tbl R_rr) (hw : rW wr tr_ D ad cs A s σ H locs) (hdg : decode cc pc = .ok (.getfield 46, 3)) (k : W p l e R s m args below meth c H locs cells slots Q (F0 m (pc + 3) ls (.ref (ad 16) :: rest))) : W p l e R s m args below meth c H locs cells slots Q (F0 m pc ls (.ref (ad 0) :: rest)) :=
  va_get (D := D) (ci := 0) (v := .ref (ad 16)) (C := R_rr) (T := F_rr) (N := 21) S.1 S.2.1 S.2.2.2.2 i_rr S.2.2.2.1 hw.1 hw.2.1 0 rfl rfl 16 (by decide) (S.2.2.2.2 _ q_rr_f16) (fun _ h9 => h9) rfl hdg k
theorem rg_17 (S : CallFix p m c cc nL s args gw_tbl R_rr) (hw : rW wr tr_ D ad cs A s σ H locs) (hdg : decode cc pc = .ok (.getfield 49, 3)) (k : W p l e R s m args below meth c H locs cells slots Q (F0 m (pc + 3) ls (.ref (ad 17) :: rest))) : W p l e R s m args below meth c H locs cells slots Q (F0 m pc ls (.ref (ad 0) :: rest)) :=
  va_get (D := D) (ci := 0) (v := .ref (ad 17)) (C := R_rr) (T := F_rr) (N := 21) S.1 S.2.1 S.2.2.2.2 i_rr S.2.2.2.1 hw.1 hw.2.1 0 rfl rfl 17 (by decide) (S.2.2.2.2 _ q_rr_f17) (fun _ h9 => h9) rfl hdg k
theorem rg_18 (S : CallFix p m c cc nL s args gw_tbl R_rr) (hw : rW wr tr_ D ad cs A s σ H locs) (hdg : decode cc pc = .ok (.getfield 52, 3)) (k : W p l e R s m args below meth c H locs cells slots Q (F0 m (pc + 3) ls (.ref (ad 18) :: rest))) : W p l e R s m args below meth c H locs cells slots Q (F0 m pc ls (.ref (ad 0) :: rest)) :=
  va_get (D := D) (ci := 0) (v := .ref (ad 18)) (C := R_rr) (T := F_rr) (N := 21) S.1 S.2.1 S.2.2.2.2 i_rr S.2.2.2.1 hw.1 hw.2.1 0 rfl rfl 18 (by decide) (S.2.2.2.2 _ q_rr_f18) (fun _ h9 => h9) rfl hdg k
theorem rg_19 (S : CallFix p m c cc nL s args gw_tbl R_rr) (hw : rW wr tr_ D ad cs A s σ H locs) (hdg : decode cc pc = .ok (.getfield 81, 3)) (k : W p l e R s m args below meth c H locs cells slots Q (F0 m (pc + 3) ls (.int (σ 0 19) :: rest))) : W p l e R s m args below meth c H locs cells slots Q (F0 m pc ls (.ref (ad 0) :: rest)) :=
  va_get (D := D) (ci := 0) (v := .int (σ 0 19)) (C := R_rr) (T := F_rr) (N := 21) S.1 S.2.1 S.2.2.2.2 i_rr S.2.2.2.1 hw.1 hw.2.1 0 rfl rfl 19 (by decide) (S.2.2.2.2 _ q_rr_f19) (fun _ h9 => h9) rfl hdg k
theorem rp_19 {v : Int32} (S : CallFix p m c cc nL s args gw_tbl R_rr) (hw : rW wr tr_ D ad cs A s σ H locs) (hdg : decode cc pc = .ok (.putfield 81, 3)) (k : ∀ (H' : Heap) (locs' : List Loc), rW wr tr_ D ad cs A s (up2 σ 0 19 v) H' locs' → W p l e R s m args below meth c H' locs' cells slots Q (F0 m (pc + 3) ls rest)) : W p l e R s m args below meth c H locs cells slots Q (F0 m pc ls (.int v :: .ref (ad 0) :: rest)) :=
  va_put (D := D) (ci := 0) (v := .int v) (ty := .int) (C := R_rr) (T := F_rr) (N := 21) S.1 S.2.1 S.2.2.2.2 i_rr t_rr t_rr_ok n_rr S.2.2.2.1 hw.1 hw.2.1 hw.2.2.1 hw.2.2.2.1 0 rfl rfl 19 (by decide) (S.2.2.2.2 _ q_rr_f19) (fun _ h9 => h9) rfl (by decide +kernel) rfl rfl (Nat.le_of_ble_eq_true rfl) hdg (fun H1 locs1 hP hD hS => k H1 locs1 ⟨hw.1, hP, hD, hS, hw.2.2.2.2⟩)
theorem rg_20 (S : CallFix p m c cc nL s args gw_tbl R_rr) (hw : rW wr tr_ D ad cs A s σ H locs) (hdg : decode cc pc = .ok (.getfield 84, 3)) (k : W p l e R s m args below meth c H locs cells slots Q (F0 m (pc + 3) ls (.int (σ 0 20) :: rest))) : W p l e R s m args below meth c H locs cells slots Q (F0 m pc ls (.ref (ad 0) :: rest)) :=
  va_get (D := D) (ci := 0) (v := .int (σ 0 20)) (C := R_rr) (T := F_rr) (N := 21) S.1 S.2.1 S.2.2.2.2 i_rr S.2.2.2.1 hw.1 hw.2.1 0 rfl rfl 20 (by decide) (S.2.2.2.2 _ q_rr_f20) (fun _ h9 => h9) rfl hdg k
theorem rp_20 {v : Int32} (S : CallFix p m c cc nL s args gw_tbl R_rr) (hw : rW wr tr_ D ad cs A s σ H locs) (hdg : decode cc pc = .ok (.putfield 84, 3)) (k : ∀ (H' : Heap) (locs' : List Loc), rW wr tr_ D ad cs A s (up2 σ 0 20 v) H' locs' → W p l e R s m args below meth c H' locs' cells slots Q (F0 m (pc + 3) ls rest)) : W p l e R s m args below meth c H locs cells slots Q (F0 m pc ls (.int v :: .ref (ad 0) :: rest)) :=
  va_put (D := D) (ci := 0) (v := .int v) (ty := .int) (C := R_rr) (T := F_rr) (N := 21) S.1 S.2.1 S.2.2.2.2 i_rr t_rr t_rr_ok n_rr S.2.2.2.1 hw.1 hw.2.1 hw.2.2.1 hw.2.2.2.1 0 rfl rfl 20 (by decide) (S.2.2.2.2 _ q_rr_f20) (fun _ h9 => h9) rfl (by decide +kernel) rfl rfl (Nat.le_of_ble_eq_true rfl) hdg (fun H1 locs1 hP hD hS => k H1 locs1 ⟨hw.1, hP, hD, hS, hw.2.2.2.2⟩)
theorem rl_3 {j : Nat} (S : CallFix p m c cc nL s args gw_tbl R_rr) (hw : rW wr tr_ D ad cs A s σ H locs) (hdg : decode cc pc = .ok (.iaload, 1)) (hj : j < 24) (k : W p l e R s m args below meth c H locs cells slots Q (F0 m (pc + 1) ls (.int (σ 3 j) :: rest))) : W p l e R s m args below meth c H locs cells slots Q (F0 m pc ls (.int (nI j) :: .ref (ad 3) :: rest)) :=
  va_iald S.1 S.2.1 hw.1 hw.2.1 1 0 rfl rfl (vp_in_nI hj (by decide)) hdg (by rw [nI_clamp (Nat.lt_trans hj (by decide))]; exact k)
theorem rs_3 {j : Nat} {v : Int32} (S : CallFix p m c cc nL s args gw_tbl R_rr) (hw : rW wr tr_ D ad cs A s σ H locs) (hdg : decode cc pc = .ok (.iastore, 1)) (hj : j < 24) (k : ∀ (H' : Heap) (locs' : List Loc), rW wr tr_ D ad cs A s (up2 σ 3 j v) H' locs' → W p l e R s m args below meth c H' locs' cells slots Q (F0 m (pc + 1) ls rest)) : W p l e R s m args below meth c H locs cells slots Q (F0 m pc ls (.int v :: .int (nI j) :: .ref (ad 3) :: rest)) :=
  va_iast S.1 S.2.1 hw.1 hw.2.1 hw.2.2.1 hw.2.2.2.1 1 0 rfl rfl (vp_in_nI hj (by decide)) hdg (fun H1 locs1 hP hD hS => by
    rw [nI_clamp (Nat.lt_trans hj (by decide))] at hP hD
    exact k H1 locs1 ⟨hw.1, hP, hD, hS, hw.2.2.2.2⟩)
theorem rl_4 {j : Nat} (S : CallFix p m c cc nL s args gw_tbl R_rr) (hw : rW wr tr_ D ad cs A s σ H locs) (hdg : decode cc pc = .ok (.baload, 1)) (hj : j < 24) (k : W p l e R s m args below meth c H locs cells slots Q (F0 m (pc + 1) ls (.int (σ 4 j) :: rest))) : W p l e R s m args below meth c H locs cells slots Q (F0 m pc ls (.int (nI j) :: .ref (ad 4) :: rest)) :=
  va_bald S.1 S.2.1 hw.1 hw.2.1 2 1 rfl rfl (vp_in_nI hj (by decide)) hdg (by rw [nI_clamp (Nat.lt_trans hj (by decide))]; exact k)
theorem rs_4 {j : Nat} {v : Int32} (S : CallFix p m c cc nL s args gw_tbl R_rr) (hw : rW wr tr_ D ad cs A s σ H locs) (hdg : decode cc pc = .ok (.bastore, 1)) (hj : j < 24) (hB : vp_nar .byte v = v) (k : ∀ (H' : Heap) (locs' : List Loc), rW wr tr_ D ad cs A s (up2 σ 4 j v) H' locs' → W p l e R s m args below meth c H' locs' cells slots Q (F0 m (pc + 1) ls rest)) : W p l e R s m args below meth c H locs cells slots Q (F0 m pc ls (.int v :: .int (nI j) :: .ref (ad 4) :: rest)) :=
  va_bast S.1 S.2.1 hw.1 hw.2.1 hw.2.2.1 hw.2.2.2.1 2 1 rfl rfl (vp_in_nI hj (by decide)) hdg (fun H1 locs1 hP hD hS => by
    rw [nI_clamp (Nat.lt_trans hj (by decide)), hB] at hP hD
    exact k H1 locs1 ⟨hw.1, hP, hD, hS, hw.2.2.2.2⟩)
theorem rl_5 {j : Nat} (S : CallFix p m c cc nL s args gw_tbl R_rr) (hw : rW wr tr_ D ad cs A s σ H locs) (hdg : decode cc pc = .ok (.iaload, 1)) (hj : j < 96) (k : W p l e R s m args below meth c H locs cells slots Q (F0 m (pc + 1) ls (.int (σ 5 j) :: rest))) : W p l e R s m args below meth c H locs cells slots Q (F0 m pc ls (.int (nI j) :: .ref (ad 5) :: rest)) :=
  va_iald S.1 S.2.1 hw.1 hw.2.1 3 2 rfl rfl (vp_in_nI hj (by decide)) hdg (by rw [nI_clamp (Nat.lt_trans hj (by decide))]; exact k)
theorem rs_5 {j : Nat} {v : Int32} (S : CallFix p m c cc nL s args gw_tbl R_rr) (hw : rW wr tr_ D ad cs A s σ H locs) (hdg : decode cc pc = .ok (.iastore, 1)) (hj : j < 96) (k : ∀ (H' : Heap) (locs' : List Loc), rW wr tr_ D ad cs A s (up2 σ 5 j v) H' locs' → W p l e R s m args below meth c H' locs' cells slots Q (F0 m (pc + 1) ls rest)) : W p l e R s m args below meth c H locs cells slots Q (F0 m pc ls (.int v :: .int (nI j) :: .ref (ad 5) :: rest)) :=
  va_iast S.1 S.2.1 hw.1 hw.2.1 hw.2.2.1 hw.2.2.2.1 3 2 rfl rfl (vp_in_nI hj (by decide)) hdg (fun H1 locs1 hP hD hS => by
    rw [nI_clamp (Nat.lt_trans hj (by decide))] at hP hD
    exact k H1 locs1 ⟨hw.1, hP, hD, hS, hw.2.2.2.2⟩)
theorem rl_6 {j : Nat} (S : CallFix p m c cc nL s args gw_tbl R_rr) (hw : rW wr tr_ D ad cs A s σ H locs) (hdg : decode cc pc = .ok (.iaload, 1)) (hj : j < 96) (k : W p l e R s m args below meth c H locs cells slots Q (F0 m (pc + 1) ls (.int (σ 6 j) :: rest))) : W p l e R s m args below meth c H locs cells slots Q (F0 m pc ls (.int (nI j) :: .ref (ad 6) :: rest)) :=
  va_iald S.1 S.2.1 hw.1 hw.2.1 4 3 rfl rfl (vp_in_nI hj (by decide)) hdg (by rw [nI_clamp (Nat.lt_trans hj (by decide))]; exact k)
theorem rs_6 {j : Nat} {v : Int32} (S : CallFix p m c cc nL s args gw_tbl R_rr) (hw : rW wr tr_ D ad cs A s σ H locs) (hdg : decode cc pc = .ok (.iastore, 1)) (hj : j < 96) (k : ∀ (H' : Heap) (locs' : List Loc), rW wr tr_ D ad cs A s (up2 σ 6 j v) H' locs' → W p l e R s m args below meth c H' locs' cells slots Q (F0 m (pc + 1) ls rest)) : W p l e R s m args below meth c H locs cells slots Q (F0 m pc ls (.int v :: .int (nI j) :: .ref (ad 6) :: rest)) :=
  va_iast S.1 S.2.1 hw.1 hw.2.1 hw.2.2.1 hw.2.2.2.1 4 3 rfl rfl (vp_in_nI hj (by decide)) hdg (fun H1 locs1 hP hD hS => by
    rw [nI_clamp (Nat.lt_trans hj (by decide))] at hP hD
    exact k H1 locs1 ⟨hw.1, hP, hD, hS, hw.2.2.2.2⟩)
theorem rl_7 {j : Nat} (S : CallFix p m c cc nL s args gw_tbl R_rr) (hw : rW wr tr_ D ad cs A s σ H locs) (hdg : decode cc pc = .ok (.baload, 1)) (hj : j < 96) (k : W p l e R s m args below meth c H locs cells slots Q (F0 m (pc + 1) ls (.int (σ 7 j) :: rest))) : W p l e R s m args below meth c H locs cells slots Q (F0 m pc ls (.int (nI j) :: .ref (ad 7) :: rest)) :=
  va_zald S.1 S.2.1 hw.1 hw.2.1 5 4 rfl rfl (vp_in_nI hj (by decide)) hdg (by rw [nI_clamp (Nat.lt_trans hj (by decide))]; exact k)
theorem rs_7 {j : Nat} {v : Int32} (S : CallFix p m c cc nL s args gw_tbl R_rr) (hw : rW wr tr_ D ad cs A s σ H locs) (hdg : decode cc pc = .ok (.bastore, 1)) (hj : j < 96) (hB : isB v) (k : ∀ (H' : Heap) (locs' : List Loc), rW wr tr_ D ad cs A s (up2 σ 7 j v) H' locs' → W p l e R s m args below meth c H' locs' cells slots Q (F0 m (pc + 1) ls rest)) : W p l e R s m args below meth c H locs cells slots Q (F0 m pc ls (.int v :: .int (nI j) :: .ref (ad 7) :: rest)) :=
  va_zast S.1 S.2.1 hw.1 hw.2.1 hw.2.2.1 hw.2.2.2.1 5 4 rfl rfl (vp_in_nI hj (by decide)) hdg (fun H1 locs1 hP hD hS => by
    rw [nI_clamp (Nat.lt_trans hj (by decide)), isB_vp hB] at hP hD
    exact k H1 locs1 ⟨hw.1, hP, hD, hS, hw.2.2.2.2⟩)
theorem rl_8 {j : Nat} (S : CallFix p m c cc nL s args gw_tbl R_rr) (hw : rW wr tr_ D ad cs A s σ H locs) (hdg : decode cc pc = .ok (.iaload, 1)) (hj : j < 576) (k : W p l e R s m args below meth c H locs cells slots Q (F0 m (pc + 1) ls (.int (σ 8 j) :: rest))) : W p l e R s m args below meth c H locs cells slots Q (F0 m pc ls (.int (nI j) :: .ref (ad 8) :: rest)) :=
  va_iald S.1 S.2.1 hw.1 hw.2.1 6 5 rfl rfl (vp_in_nI hj (by decide)) hdg (by rw [nI_clamp (Nat.lt_trans hj (by decide))]; exact k)
theorem rs_8 {j : Nat} {v : Int32} (S : CallFix p m c cc nL s args gw_tbl R_rr) (hw : rW wr tr_ D ad cs A s σ H locs) (hdg : decode cc pc = .ok (.iastore, 1)) (hj : j < 576) (k : ∀ (H' : Heap) (locs' : List Loc), rW wr tr_ D ad cs A s (up2 σ 8 j v) H' locs' → W p l e R s m args below meth c H' locs' cells slots Q (F0 m (pc + 1) ls rest)) : W p l e R s m args below meth c H locs cells slots Q (F0 m pc ls (.int v :: .int (nI j) :: .ref (ad 8) :: rest)) :=
  va_iast S.1 S.2.1 hw.1 hw.2.1 hw.2.2.1 hw.2.2.2.1 6 5 rfl rfl (vp_in_nI hj (by decide)) hdg (fun H1 locs1 hP hD hS => by
    rw [nI_clamp (Nat.lt_trans hj (by decide))] at hP hD
    exact k H1 locs1 ⟨hw.1, hP, hD, hS, hw.2.2.2.2⟩)
theorem rl_9 {j : Nat} (S : CallFix p m c cc nL s args gw_tbl R_rr) (hw : rW wr tr_ D ad cs A s σ H locs) (hdg : decode cc pc = .ok (.iaload, 1)) (hj : j < 576) (k : W p l e R s m args below meth c H locs cells slots Q (F0 m (pc + 1) ls (.int (σ 9 j) :: rest))) : W p l e R s m args below meth c H locs cells slots Q (F0 m pc ls (.int (nI j) :: .ref (ad 9) :: rest)) :=
  va_iald S.1 S.2.1 hw.1 hw.2.1 7 6 rfl rfl (vp_in_nI hj (by decide)) hdg (by rw [nI_clamp (Nat.lt_trans hj (by decide))]; exact k)
theorem rs_9 {j : Nat} {v : Int32} (S : CallFix p m c cc nL s args gw_tbl R_rr) (hw : rW wr tr_ D ad cs A s σ H locs) (hdg : decode cc pc = .ok (.iastore, 1)) (hj : j < 576) (k : ∀ (H' : Heap) (locs' : List Loc), rW wr tr_ D ad cs A s (up2 σ 9 j v) H' locs' → W p l e R s m args below meth c H' locs' cells slots Q (F0 m (pc + 1) ls rest)) : W p l e R s m args below meth c H locs cells slots Q (F0 m pc ls (.int v :: .int (nI j) :: .ref (ad 9) :: rest)) :=
  va_iast S.1 S.2.1 hw.1 hw.2.1 hw.2.2.1 hw.2.2.2.1 7 6 rfl rfl (vp_in_nI hj (by decide)) hdg (fun H1 locs1 hP hD hS => by
    rw [nI_clamp (Nat.lt_trans hj (by decide))] at hP hD
    exact k H1 locs1 ⟨hw.1, hP, hD, hS, hw.2.2.2.2⟩)
theorem rl_10 {j : Nat} (S : CallFix p m c cc nL s args gw_tbl R_rr) (hw : rW wr tr_ D ad cs A s σ H locs) (hdg : decode cc pc = .ok (.baload, 1)) (hj : j < 576) (k : W p l e R s m args below meth c H locs cells slots Q (F0 m (pc + 1) ls (.int (σ 10 j) :: rest))) : W p l e R s m args below meth c H locs cells slots Q (F0 m pc ls (.int (nI j) :: .ref (ad 10) :: rest)) :=
  va_zald S.1 S.2.1 hw.1 hw.2.1 8 7 rfl rfl (vp_in_nI hj (by decide)) hdg (by rw [nI_clamp (Nat.lt_trans hj (by decide))]; exact k)
theorem rs_10 {j : Nat} {v : Int32} (S : CallFix p m c cc nL s args gw_tbl R_rr) (hw : rW wr tr_ D ad cs A s σ H locs) (hdg : decode cc pc = .ok (.bastore, 1)) (hj : j < 576) (hB : isB v) (k : ∀ (H' : Heap) (locs' : List Loc), rW wr tr_ D ad cs A s (up2 σ 10 j v) H' locs' → W p l e R s m args below meth c H' locs' cells slots Q (F0 m (pc + 1) ls rest)) : W p l e R s m args below meth c H locs cells slots Q (F0 m pc ls (.int v :: .int (nI j) :: .ref (ad 10) :: rest)) :=
  va_zast S.1 S.2.1 hw.1 hw.2.1 hw.2.2.1 hw.2.2.2.1 8 7 rfl rfl (vp_in_nI hj (by decide)) hdg (fun H1 locs1 hP hD hS => by
    rw [nI_clamp (Nat.lt_trans hj (by decide)), isB_vp hB] at hP hD
    exact k H1 locs1 ⟨hw.1, hP, hD, hS, hw.2.2.2.2⟩)
theorem rl_11 {j : Nat} (S : CallFix p m c cc nL s args gw_tbl R_rr) (hw : rW wr tr_ D ad cs A s σ H locs) (hdg : decode cc pc = .ok (.baload, 1)) (hj : j < 3) (k : W p l e R s m args below meth c H locs cells slots Q (F0 m (pc + 1) ls (.int (σ 11 j) :: rest))) : W p l e R s m args below meth c H locs cells slots Q (F0 m pc ls (.int (nI j) :: .ref (ad 11) :: rest)) :=
  va_bald S.1 S.2.1 hw.1 hw.2.1 9 8 rfl rfl (vp_in_nI hj (by decide)) hdg (by rw [nI_clamp (Nat.lt_trans hj (by decide))]; exact k)
theorem rs_11 {j : Nat} {v : Int32} (S : CallFix p m c cc nL s args gw_tbl R_rr) (hw : rW wr tr_ D ad cs A s σ H locs) (hdg : decode cc pc = .ok (.bastore, 1)) (hj : j < 3) (hB : vp_nar .byte v = v) (k : ∀ (H' : Heap) (locs' : List Loc), rW wr tr_ D ad cs A s (up2 σ 11 j v) H' locs' → W p l e R s m args below meth c H' locs' cells slots Q (F0 m (pc + 1) ls rest)) : W p l e R s m args below meth c H locs cells slots Q (F0 m pc ls (.int v :: .int (nI j) :: .ref (ad 11) :: rest)) :=
  va_bast S.1 S.2.1 hw.1 hw.2.1 hw.2.2.1 hw.2.2.2.1 9 8 rfl rfl (vp_in_nI hj (by decide)) hdg (fun H1 locs1 hP hD hS => by
    rw [nI_clamp (Nat.lt_trans hj (by decide)), hB] at hP hD
    exact k H1 locs1 ⟨hw.1, hP, hD, hS, hw.2.2.2.2⟩)
theorem rl_16 {j : Nat} (S : CallFix p m c cc nL s args gw_tbl R_rr) (hw : rW wr tr_ D ad cs A s σ H locs) (hdg : decode cc pc = .ok (.iaload, 1)) (hj : j < 31) (k : W p l e R s m args below meth c H locs cells slots Q (F0 m (pc + 1) ls (.int (σ 16 j) :: rest))) : W p l e R s m args below meth c H locs cells slots Q (F0 m pc ls (.int (nI j) :: .ref (ad 16) :: rest)) :=
  va_iald S.1 S.2.1 hw.1 hw.2.1 10 9 rfl rfl (vp_in_nI hj (by decide)) hdg (by rw [nI_clamp (Nat.lt_trans hj (by decide))]; exact k)
theorem rs_16 {j : Nat} {v : Int32} (S : CallFix p m c cc nL s args gw_tbl R_rr) (hw : rW wr tr_ D ad cs A s σ H locs) (hdg : decode cc pc = .ok (.iastore, 1)) (hj : j < 31) (k : ∀ (H' : Heap) (locs' : List Loc), rW wr tr_ D ad cs A s (up2 σ 16 j v) H' locs' → W p l e R s m args below meth c H' locs' cells slots Q (F0 m (pc + 1) ls rest)) : W p l e R s m args below meth c H locs cells slots Q (F0 m pc ls (.int v :: .int (nI j) :: .ref (ad 16) :: rest)) :=
  va_iast S.1 S.2.1 hw.1 hw.2.1 hw.2.2.1 hw.2.2.2.1 10 9 rfl rfl (vp_in_nI hj (by decide)) hdg (fun H1 locs1 hP hD hS => by
    rw [nI_clamp (Nat.lt_trans hj (by decide))] at hP hD
    exact k H1 locs1 ⟨hw.1, hP, hD, hS, hw.2.2.2.2⟩)
theorem rl_17 {j : Nat} (S : CallFix p m c cc nL s args gw_tbl R_rr) (hw : rW wr tr_ D ad cs A s σ H locs) (hdg : decode cc pc = .ok (.iaload, 1)) (hj : j < 31) (k : W p l e R s m args below meth c H locs cells slots Q (F0 m (pc + 1) ls (.int (σ 17 j) :: rest))) : W p l e R s m args below meth c H locs cells slots Q (F0 m pc ls (.int (nI j) :: .ref (ad 17) :: rest)) :=
  va_iald S.1 S.2.1 hw.1 hw.2.1 11 10 rfl rfl (vp_in_nI hj (by decide)) hdg (by rw [nI_clamp (Nat.lt_trans hj (by decide))]; exact k)
theorem rs_17 {j : Nat} {v : Int32} (S : CallFix p m c cc nL s args gw_tbl R_rr) (hw : rW wr tr_ D ad cs A s σ H locs) (hdg : decode cc pc = .ok (.iastore, 1)) (hj : j < 31) (k : ∀ (H' : Heap) (locs' : List Loc), rW wr tr_ D ad cs A s (up2 σ 17 j v) H' locs' → W p l e R s m args below meth c H' locs' cells slots Q (F0 m (pc + 1) ls rest)) : W p l e R s m args below meth c H locs cells slots Q (F0 m pc ls (.int v :: .int (nI j) :: .ref (ad 17) :: rest)) :=
  va_iast S.1 S.2.1 hw.1 hw.2.1 hw.2.2.1 hw.2.2.2.1 11 10 rfl rfl (vp_in_nI hj (by decide)) hdg (fun H1 locs1 hP hD hS => by
    rw [nI_clamp (Nat.lt_trans hj (by decide))] at hP hD
    exact k H1 locs1 ⟨hw.1, hP, hD, hS, hw.2.2.2.2⟩)
theorem rl_18 {j : Nat} (S : CallFix p m c cc nL s args gw_tbl R_rr) (hw : rW wr tr_ D ad cs A s σ H locs) (hdg : decode cc pc = .ok (.baload, 1)) (hj : j < 31) (k : W p l e R s m args below meth c H locs cells slots Q (F0 m (pc + 1) ls (.int (σ 18 j) :: rest))) : W p l e R s m args below meth c H locs cells slots Q (F0 m pc ls (.int (nI j) :: .ref (ad 18) :: rest)) :=
  va_zald S.1 S.2.1 hw.1 hw.2.1 12 11 rfl rfl (vp_in_nI hj (by decide)) hdg (by rw [nI_clamp (Nat.lt_trans hj (by decide))]; exact k)
theorem rs_18 {j : Nat} {v : Int32} (S : CallFix p m c cc nL s args gw_tbl R_rr) (hw : rW wr tr_ D ad cs A s σ H locs) (hdg : decode cc pc = .ok (.bastore, 1)) (hj : j < 31) (hB : isB v) (k : ∀ (H' : Heap) (locs' : List Loc), rW wr tr_ D ad cs A s (up2 σ 18 j v) H' locs' → W p l e R s m args below meth c H' locs' cells slots Q (F0 m (pc + 1) ls rest)) : W p l e R s m args below meth c H locs cells slots Q (F0 m pc ls (.int v :: .int (nI j) :: .ref (ad 18) :: rest)) :=
  va_zast S.1 S.2.1 hw.1 hw.2.1 hw.2.2.1 hw.2.2.2.1 12 11 rfl rfl (vp_in_nI hj (by decide)) hdg (fun H1 locs1 hP hD hS => by
    rw [nI_clamp (Nat.lt_trans hj (by decide)), isB_vp hB] at hP hD
    exact k H1 locs1 ⟨hw.1, hP, hD, hS, hw.2.2.2.2⟩)
theorem mg_0 (S : CallFix p m c cc nL s args gw_tbl R_md) (hw : rW wm tm_ D ad cs A s σ H locs) (hdg : decode cc pc = .ok (.getfield 7, 3)) (k : W p l e R s m args below meth c H locs cells slots Q (F0 m (pc + 3) ls (.ref (ad 1) :: rest))) : W p l e R s m args below meth c H locs cells slots Q (F0 m pc ls (.ref (ad 0) :: rest)) :=
  va_get (D := D) (ci := 1) (v := .ref (ad 1)) (C := R_md) (T := F_md) (N := 5) S.1 S.2.1 S.2.2.2.2 i_md S.2.2.2.1 hw.1 hw.2.1 0 rfl rfl 0 (by decide) (S.2.2.2.2 _ q_md_f0) (fun _ h9 => h9) rfl hdg k
theorem mg_1 (S : CallFix p m c cc nL s args gw_tbl R_md) (hw : rW wm tm_ D ad cs A s σ H locs) (hdg : decode cc pc = .ok (.getfield 13, 3)) (k : W p l e R s m args below meth c H locs cells slots Q (F0 m (pc + 3) ls (.ref (ad 2) :: rest))) : W p l e R s m args below meth c H locs cells slots Q (F0 m pc ls (.ref (ad 0) :: rest)) :=
  va_get (D := D) (ci := 1) (v := .ref (ad 2)) (C := R_md) (T := F_md) (N := 5) S.1 S.2.1 S.2.2.2.2 i_md S.2.2.2.1 hw.1 hw.2.1 0 rfl rfl 1 (by decide) (S.2.2.2.2 _ q_md_f1) (fun _ h9 => h9) rfl hdg k
theorem mg_2 (S : CallFix p m c cc nL s args gw_tbl R_md) (hw : rW wm tm_ D ad cs A s σ H locs) (hdg : decode cc pc = .ok (.getfield 17, 3)) (k : W p l e R s m args below meth c H locs cells slots Q (F0 m (pc + 3) ls (.ref (ad 3) :: rest))) : W p l e R s m args below meth c H locs cells slots Q (F0 m pc ls (.ref (ad 0) :: rest)) :=
  va_get (D := D) (ci := 1) (v := .ref (ad 3)) (C := R_md) (T := F_md) (N := 5) S.1 S.2.1 S.2.2.2.2 i_md S.2.2.2.1 hw.1 hw.2.1 0 rfl rfl 2 (by decide) (S.2.2.2.2 _ q_md_f2) (fun _ h9 => h9) rfl hdg k
theorem mg_3 (S : CallFix p m c cc nL s args gw_tbl R_md) (hw : rW wm tm_ D ad cs A s σ H locs) (hdg : decode cc pc = .ok (.getfield 20, 3)) (k : W p l e R s m args below meth c H locs cells slots Q (F0 m (pc + 3) ls (.int (σ 0 3) :: rest))) : W p l e R s m args below meth c H locs cells slots Q (F0 m pc ls (.ref (ad 0) :: rest)) :=
  va_get (D := D) (ci := 1) (v := .int (σ 0 3)) (C := R_md) (T := F_md) (N := 5) S.1 S.2.1 S.2.2.2.2 i_md S.2.2.2.1 hw.1 hw.2.1 0 rfl rfl 3 (by decide) (S.2.2.2.2 _ q_md_f3) (fun _ h9 => h9) rfl hdg k
theorem mp_3 {v : Int32} (S : CallFix p m c cc nL s args gw_tbl R_md) (hw : rW wm tm_ D ad cs A s σ H locs) (hdg : decode cc pc = .ok (.putfield 20, 3)) (k : ∀ (H' : Heap) (locs' : List Loc), rW wm tm_ D ad cs A s (up2 σ 0 3 v) H' locs' → W p l e R s m args below meth c H' locs' cells slots Q (F0 m (pc + 3) ls rest)) : W p l e R s m args below meth c H locs cells slots Q (F0 m pc ls (.int v :: .ref (ad 0) :: rest)) :=
  va_put (D := D) (ci := 1) (v := .int v) (ty := .int) (C := R_md) (T := F_md) (N := 5) S.1 S.2.1 S.2.2.2.2 i_md t_md t_md_ok n_md S.2.2.2.1 hw.1 hw.2.1 hw.2.2.1 hw.2.2.2.1 0 rfl rfl 3 (by decide) (S.2.2.2.2 _ q_md_f3) (fun _ h9 => h9) rfl (by decide +kernel) rfl rfl (Nat.le_of_ble_eq_true rfl) hdg (fun H1 locs1 hP hD hS => k H1 locs1 ⟨hw.1, hP, hD, hS, hw.2.2.2.2⟩)
theorem mg_4 (S : CallFix p m c cc nL s args gw_tbl R_md) (hw : rW wm tm_ D ad cs A s σ H locs) (hdg : decode cc pc = .ok (.getfield 24, 3)) (k : W p l e R s m args below meth c H locs cells slots Q (F0 m (pc + 3) ls (.int (σ 0 4) :: rest))) : W p l e R s m args below meth c H locs cells slots Q (F0 m pc ls (.ref (ad 0) :: rest)) :=
  va_get (D := D) (ci := 1) (v := .int (σ 0 4)) (C := R_md) (T := F_md) (N := 5) S.1 S.2.1 S.2.2.2.2 i_md S.2.2.2.1 hw.1 hw.2.1 0 rfl rfl 4 (by decide) (S.2.2.2.2 _ q_md_f4) (fun _ h9 => h9) rfl hdg k
theorem mp_4 {v : Int32} (S : CallFix p m c cc nL s args gw_tbl R_md) (hw : rW wm tm_ D ad cs A s σ H locs) (hdg : decode cc pc = .ok (.putfield 24, 3)) (k : ∀ (H' : Heap) (locs' : List Loc), rW wm tm_ D ad cs A s (up2 σ 0 4 v) H' locs' → W p l e R s m args below meth c H' locs' cells slots Q (F0 m (pc + 3) ls rest)) : W p l e R s m args below meth c H locs cells slots Q (F0 m pc ls (.int v :: .ref (ad 0) :: rest)) :=
  va_put (D := D) (ci := 1) (v := .int v) (ty := .int) (C := R_md) (T := F_md) (N := 5) S.1 S.2.1 S.2.2.2.2 i_md t_md t_md_ok n_md S.2.2.2.1 hw.1 hw.2.1 hw.2.2.1 hw.2.2.2.1 0 rfl rfl 4 (by decide) (S.2.2.2.2 _ q_md_f4) (fun _ h9 => h9) rfl (by decide +kernel) rfl rfl (Nat.le_of_ble_eq_true rfl) hdg (fun H1 locs1 hP hD hS => k H1 locs1 ⟨hw.1, hP, hD, hS, hw.2.2.2.2⟩)
theorem ml_1 {j : Nat} (S : CallFix p m c cc nL s args gw_tbl R_md) (hw : rW wm tm_ D ad cs A s σ H locs) (hdg : decode cc pc = .ok (.iaload, 1)) (hj : j < 16) (k : W p l e R s m args below meth c H locs cells slots Q (F0 m (pc + 1) ls (.int (σ 1 j) :: rest))) : W p l e R s m args below meth c H locs cells slots Q (F0 m pc ls (.int (nI j) :: .ref (ad 1) :: rest)) :=
  va_iald S.1 S.2.1 hw.1 hw.2.1 1 0 rfl rfl (vp_in_nI hj (by decide)) hdg (by rw [nI_clamp (Nat.lt_trans hj (by decide))]; exact k)
theorem ms_1 {j : Nat} {v : Int32} (S : CallFix p m c cc nL s args gw_tbl R_md) (hw : rW wm tm_ D ad cs A s σ H locs) (hdg : decode cc pc = .ok (.iastore, 1)) (hj : j < 16) (k : ∀ (H' : Heap) (locs' : List Loc), rW wm tm_ D ad cs A s (up2 σ 1 j v) H' locs' → W p l e R s m args below meth c H' locs' cells slots Q (F0 m (pc + 1) ls rest)) : W p l e R s m args below meth c H locs cells slots Q (F0 m pc ls (.int v :: .int (nI j) :: .ref (ad 1) :: rest)) :=
  va_iast S.1 S.2.1 hw.1 hw.2.1 hw.2.2.1 hw.2.2.2.1 1 0 rfl rfl (vp_in_nI hj (by decide)) hdg (fun H1 locs1 hP hD hS => by
    rw [nI_clamp (Nat.lt_trans hj (by decide))] at hP hD
    exact k H1 locs1 ⟨hw.1, hP, hD, hS, hw.2.2.2.2⟩)
theorem ml_2 {j : Nat} (S : CallFix p m c cc nL s args gw_tbl R_md) (hw : rW wm tm_ D ad cs A s σ H locs) (hdg : decode cc pc = .ok (.baload, 1)) (hj : j < 16) (k : W p l e R s m args below meth c H locs cells slots Q (F0 m (pc + 1) ls (.int (σ 2 j) :: rest))) : W p l e R s m args below meth c H locs cells slots Q (F0 m pc ls (.int (nI j) :: .ref (ad 2) :: rest)) :=
  va_zald S.1 S.2.1 hw.1 hw.2.1 2 1 rfl rfl (vp_in_nI hj (by decide)) hdg (by rw [nI_clamp (Nat.lt_trans hj (by decide))]; exact k)
theorem ms_2 {j : Nat} {v : Int32} (S : CallFix p m c cc nL s args gw_tbl R_md) (hw : rW wm tm_ D ad cs A s σ H locs) (hdg : decode cc pc = .ok (.bastore, 1)) (hj : j < 16) (hB : isB v) (k : ∀ (H' : Heap) (locs' : List Loc), rW wm tm_ D ad cs A s (up2 σ 2 j v) H' locs' → W p l e R s m args below meth c H' locs' cells slots Q (F0 m (pc + 1) ls rest)) : W p l e R s m args below meth c H locs cells slots Q (F0 m pc ls (.int v :: .int (nI j) :: .ref (ad 2) :: rest)) :=
  va_zast S.1 S.2.1 hw.1 hw.2.1 hw.2.2.1 hw.2.2.2.1 2 1 rfl rfl (vp_in_nI hj (by decide)) hdg (fun H1 locs1 hP hD hS => by
    rw [nI_clamp (Nat.lt_trans hj (by decide)), isB_vp hB] at hP hD
    exact k H1 locs1 ⟨hw.1, hP, hD, hS, hw.2.2.2.2⟩)
theorem ml_3 {j : Nat} (S : CallFix p m c cc nL s args gw_tbl R_md) (hw : rW wm tm_ D ad cs A s σ H locs) (hdg : decode cc pc = .ok (.iaload, 1)) (hj : j < 16) (k : W p l e R s m args below meth c H locs cells slots Q (F0 m (pc + 1) ls (.int (σ 3 j) :: rest))) : W p l e R s m args below meth c H locs cells slots Q (F0 m pc ls (.int (nI j) :: .ref (ad 3) :: rest)) :=
  va_iald S.1 S.2.1 hw.1 hw.2.1 3 2 rfl rfl (vp_in_nI hj (by decide)) hdg (by rw [nI_clamp (Nat.lt_trans hj (by decide))]; exact k)
theorem ms_3 {j : Nat} {v : Int32} (S : CallFix p m c cc nL s args gw_tbl R_md) (hw : rW wm tm_ D ad cs A s σ H locs) (hdg : decode cc pc = .ok (.iastore, 1)) (hj : j < 16) (k : ∀ (H' : Heap) (locs' : List Loc), rW wm tm_ D ad cs A s (up2 σ 3 j v) H' locs' → W p l e R s m args below meth c H' locs' cells slots Q (F0 m (pc + 1) ls rest)) : W p l e R s m args below meth c H locs cells slots Q (F0 m pc ls (.int v :: .int (nI j) :: .ref (ad 3) :: rest)) :=
  va_iast S.1 S.2.1 hw.1 hw.2.1 hw.2.2.1 hw.2.2.2.1 3 2 rfl rfl (vp_in_nI hj (by decide)) hdg (fun H1 locs1 hP hD hS => by
    rw [nI_clamp (Nat.lt_trans hj (by decide))] at hP hD
    exact k H1 locs1 ⟨hw.1, hP, hD, hS, hw.2.2.2.2⟩)
end ROWS
theorem k_r_r_layRing : rLk R_rr 55 R_rr y_r_layRing b_r_layRing 4 none 0 := ⟨q_link_r_r_layRing, q_inst_r_layRing, q_sel_r_layRing, q_ini_r, q_code_r_layRing, by decide +kernel⟩
theorem k_r_r_isMember : rLk R_rr 66 R_rr y_r_isMember b_r_isMember 2 (some .boolean) 1 := ⟨q_link_r_r_isMember, q_inst_r_isMember, q_sel_r_isMember, q_ini_r, q_code_r_isMember, by decide +kernel⟩
theorem k_r_r_isMachine : rLs R_rr 58 y_r_isMachine b_r_isMachine 1 (some .boolean) 1 := ⟨q_link_r_r_isMachine, q_stat_r_isMachine, q_ini_r, q_code_r_isMachine, by decide +kernel⟩
theorem k_r_r_mixed : rLs R_rr 69 y_r_mixed b_r_mixed 2 (some .int) 1 := ⟨q_link_r_r_mixed, q_stat_r_mixed, q_ini_r, q_code_r_mixed, by decide +kernel⟩
theorem k_r_r_enterRing : rLk R_rr 73 R_rr y_r_enterRing b_r_enterRing 4 none 2 := ⟨q_link_r_r_enterRing, q_inst_r_enterRing, q_sel_r_enterRing, q_ini_r, q_code_r_enterRing, by decide +kernel⟩
theorem k_l_r_put : rLk R_law 13 R_rr y_r_put b_r_put 5 (some .int) 3 := ⟨q_link_l_r_put, q_inst_r_put, q_sel_r_put, q_ini_r, q_code_r_put, by decide +kernel⟩
theorem k_r_r_isKey : rLs R_rr 130 y_r_isKey b_r_isKey 1 (some .boolean) 1 := ⟨q_link_r_r_isKey, q_stat_r_isKey, q_ini_r, q_code_r_isKey, by decide +kernel⟩
theorem k_r_r_isNumber : rLs R_rr 133 y_r_isNumber b_r_isNumber 1 (some .boolean) 1 := ⟨q_link_r_r_isNumber, q_stat_r_isNumber, q_ini_r, q_code_r_isNumber, by decide +kernel⟩
theorem k_r_r_isWorking : rLk R_rr 106 R_rr y_r_isWorking b_r_isWorking 2 (some .boolean) 1 := ⟨q_link_r_r_isWorking, q_inst_r_isWorking, q_sel_r_isWorking, q_ini_r, q_code_r_isWorking, by decide +kernel⟩
theorem k_r_r_readNewest : rLk R_rr 138 R_rr y_r_readNewest b_r_readNewest 6 none 2 := ⟨q_link_r_r_readNewest, q_inst_r_readNewest, q_sel_r_readNewest, q_ini_r, q_code_r_readNewest, by decide +kernel⟩
theorem k_r_r_findKeepers : rLk R_rr 77 R_rr y_r_findKeepers b_r_findKeepers 9 none 1 := ⟨q_link_r_r_findKeepers, q_inst_r_findKeepers, q_sel_r_findKeepers, q_ini_r, q_code_r_findKeepers, by decide +kernel⟩
theorem k_r_r_startWork : rLk R_rr 100 R_rr y_r_startWork b_r_startWork 1 none 0 := ⟨q_link_r_r_startWork, q_inst_r_startWork, q_sel_r_startWork, q_ini_r, q_code_r_startWork, by decide +kernel⟩
theorem k_r_r_ones : rLs R_rr 103 y_r_ones b_r_ones 3 (some .int) 1 := ⟨q_link_r_r_ones, q_stat_r_ones, q_ini_r, q_code_r_ones, by decide +kernel⟩
theorem k_r_r_hasAnswered : rLk R_rr 109 R_rr y_r_hasAnswered b_r_hasAnswered 2 (some .boolean) 1 := ⟨q_link_r_r_hasAnswered, q_inst_r_hasAnswered, q_sel_r_hasAnswered, q_ini_r, q_code_r_hasAnswered, by decide +kernel⟩
theorem k_r_r_comesThrough : rLk R_rr 112 R_rr y_r_comesThrough b_r_comesThrough 3 (some .boolean) 2 := ⟨q_link_r_r_comesThrough, q_inst_r_comesThrough, q_sel_r_comesThrough, q_ini_r, q_code_r_comesThrough, by decide +kernel⟩
theorem k_r_r_hear : rLk R_rr 116 R_rr y_r_hear b_r_hear 4 none 2 := ⟨q_link_r_r_hear, q_inst_r_hear, q_sel_r_hear, q_ini_r, q_code_r_hear, by decide +kernel⟩
theorem k_r_r_store : rLk R_rr 119 R_rr y_r_store b_r_store 4 none 2 := ⟨q_link_r_r_store, q_inst_r_store, q_sel_r_store, q_ini_r, q_code_r_store, by decide +kernel⟩
theorem k_r_r_readNumber : rLk R_rr 141 R_rr y_r_readNumber b_r_readNumber 1 (some .int) 0 := ⟨q_link_r_r_readNumber, q_inst_r_readNumber, q_sel_r_readNumber, q_ini_r, q_code_r_readNumber, by decide +kernel⟩
theorem k_r_r_change : rLk R_rr 145 R_rr y_r_change b_r_change 5 none 4 := ⟨q_link_r_r_change, q_inst_r_change, q_sel_r_change, q_ini_r, q_code_r_change, by decide +kernel⟩
theorem k_r_r_writeNewest : rLk R_rr 126 R_rr y_r_writeNewest b_r_writeNewest 7 none 3 := ⟨q_link_r_r_writeNewest, q_inst_r_writeNewest, q_sel_r_writeNewest, q_ini_r, q_code_r_writeNewest, by decide +kernel⟩
theorem k_r_r_hint : rLk R_rr 122 R_rr y_r_hint b_r_hint 5 none 3 := ⟨q_link_r_r_hint, q_inst_r_hint, q_sel_r_hint, q_ini_r, q_code_r_hint, by decide +kernel⟩
theorem k_l_r_get : rLk R_law 18 R_rr y_r_get b_r_get 3 (some .int) 2 := ⟨q_link_l_r_get, q_inst_r_get, q_sel_r_get, q_ini_r, q_code_r_get, by decide +kernel⟩
theorem k_l_r_remove : rLk R_law 23 R_rr y_r_remove b_r_remove 4 (some .int) 2 := ⟨q_link_l_r_remove, q_inst_r_remove, q_sel_r_remove, q_ini_r, q_code_r_remove, by decide +kernel⟩
theorem k_l_r_add : rLk R_law 27 R_rr y_r_add b_r_add 6 (some .int) 3 := ⟨q_link_l_r_add, q_inst_r_add, q_sel_r_add, q_ini_r, q_code_r_add, by decide +kernel⟩
theorem k_l_r_down : rLk R_law 31 R_rr y_r_down b_r_down 2 (some .boolean) 1 := ⟨q_link_l_r_down, q_inst_r_down, q_sel_r_down, q_ini_r, q_code_r_down, by decide +kernel⟩
theorem k_l_r_up : rLk R_law 36 R_rr y_r_up b_r_up 5 (some .boolean) 2 := ⟨q_link_l_r_up, q_inst_r_up, q_sel_r_up, q_ini_r, q_code_r_up, by decide +kernel⟩
theorem k_r_r_erase : rLk R_rr 170 R_rr y_r_erase b_r_erase 4 none 2 := ⟨q_link_r_r_erase, q_inst_r_erase, q_sel_r_erase, q_ini_r, q_code_r_erase, by decide +kernel⟩
theorem k_r_r_handOver : rLk R_rr 173 R_rr y_r_handOver b_r_handOver 5 none 2 := ⟨q_link_r_r_handOver, q_inst_r_handOver, q_sel_r_handOver, q_ini_r, q_code_r_handOver, by decide +kernel⟩
theorem k_r_r_compare : rLk R_rr 167 R_rr y_r_compare b_r_compare 5 none 2 := ⟨q_link_r_r_compare, q_inst_r_compare, q_sel_r_compare, q_ini_r, q_code_r_compare, by decide +kernel⟩
theorem k_r_r_growTrees : rLk R_rr 161 R_rr y_r_growTrees b_r_growTrees 4 none 2 := ⟨q_link_r_r_growTrees, q_inst_r_growTrees, q_sel_r_growTrees, q_ini_r, q_code_r_growTrees, by decide +kernel⟩
theorem k_r_r_leaf : rLk R_rr 156 R_rr y_r_leaf b_r_leaf 6 (some .int) 3 := ⟨q_link_r_r_leaf, q_inst_r_leaf, q_sel_r_leaf, q_ini_r, q_code_r_leaf, by decide +kernel⟩
theorem k_r_r_keeps : rLk R_rr 149 R_rr y_r_keeps b_r_keeps 3 (some .boolean) 2 := ⟨q_link_r_r_keeps, q_inst_r_keeps, q_sel_r_keeps, q_ini_r, q_code_r_keeps, by decide +kernel⟩
theorem k_r_r_sumOf : rLs R_rr 152 y_r_sumOf b_r_sumOf 4 (some .int) 3 := ⟨q_link_r_r_sumOf, q_stat_r_sumOf, q_ini_r, q_code_r_sumOf, by decide +kernel⟩
theorem k_r_r_exchange : rLk R_rr 164 R_rr y_r_exchange b_r_exchange 7 none 3 := ⟨q_link_r_r_exchange, q_inst_r_exchange, q_sel_r_exchange, q_ini_r, q_code_r_exchange, by decide +kernel⟩
theorem k_l_r_join : rLk R_law 41 R_rr y_r_join b_r_join 2 (some .int) 1 := ⟨q_link_l_r_join, q_inst_r_join, q_sel_r_join, q_ini_r, q_code_r_join, by decide +kernel⟩
theorem k_r_r_moveTo : rLk R_rr 182 R_rr y_r_moveTo b_r_moveTo 6 none 1 := ⟨q_link_r_r_moveTo, q_inst_r_moveTo, q_sel_r_moveTo, q_ini_r, q_code_r_moveTo, by decide +kernel⟩
theorem k_r_r_leader : rLk R_rr 176 R_rr y_r_leader b_r_leader 2 (some .int) 0 := ⟨q_link_r_r_leader, q_inst_r_leader, q_sel_r_leader, q_ini_r, q_code_r_leader, by decide +kernel⟩
theorem k_r_r_dropOthers : rLk R_rr 179 R_rr y_r_dropOthers b_r_dropOthers 3 none 0 := ⟨q_link_r_r_dropOthers, q_inst_r_dropOthers, q_sel_r_dropOthers, q_ini_r, q_code_r_dropOthers, by decide +kernel⟩
theorem k_l_r_leave : rLk R_law 46 R_rr y_r_leave b_r_leave 2 (some .int) 1 := ⟨q_link_l_r_leave, q_inst_r_leave, q_sel_r_leave, q_ini_r, q_code_r_leave, by decide +kernel⟩
theorem k_l_r_lose : rLk R_law 50 R_rr y_r_lose b_r_lose 2 (some .boolean) 1 := ⟨q_link_l_r_lose, q_inst_r_lose, q_sel_r_lose, q_ini_r, q_code_r_lose, by decide +kernel⟩
theorem k_l_r_tidy : rLk R_law 54 R_rr y_r_tidy b_r_tidy 1 (some .int) 0 := ⟨q_link_l_r_tidy, q_inst_r_tidy, q_sel_r_tidy, q_ini_r, q_code_r_tidy, by decide +kernel⟩
theorem k_r_r_compareAll : rLk R_rr 185 R_rr y_r_compareAll b_r_compareAll 3 none 0 := ⟨q_link_r_r_compareAll, q_inst_r_compareAll, q_sel_r_compareAll, q_ini_r, q_code_r_compareAll, by decide +kernel⟩
theorem k_r_r_size : rLk R_rr 188 R_rr y_r_size b_r_size 3 (some .int) 0 := ⟨q_link_r_r_size, q_inst_r_size, q_sel_r_size, q_ini_r, q_code_r_size, by decide +kernel⟩
theorem k_l_r_size : rLk R_law 67 R_rr y_r_size b_r_size 3 (some .int) 0 := ⟨q_link_l_r_size, q_inst_r_size, q_sel_r_size, q_ini_r, q_code_r_size, by decide +kernel⟩
theorem k_r_r_numberOf : rLk R_rr 191 R_rr y_r_numberOf b_r_numberOf 3 (some .int) 1 := ⟨q_link_r_r_numberOf, q_inst_r_numberOf, q_sel_r_numberOf, q_ini_r, q_code_r_numberOf, by decide +kernel⟩
theorem k_l_r_members : rLk R_law 59 R_rr y_r_members b_r_members 1 (some .int) 0 := ⟨q_link_l_r_members, q_inst_r_members, q_sel_r_members, q_ini_r, q_code_r_members, by decide +kernel⟩
theorem k_l_r_working : rLk R_law 63 R_rr y_r_working b_r_working 1 (some .int) 0 := ⟨q_link_l_r_working, q_inst_r_working, q_sel_r_working, q_ini_r, q_code_r_working, by decide +kernel⟩
theorem k_l_r_nextKey : rLk R_law 71 R_rr y_r_nextKey b_r_nextKey 3 (some .int) 1 := ⟨q_link_l_r_nextKey, q_inst_r_nextKey, q_sel_r_nextKey, q_ini_r, q_code_r_nextKey, by decide +kernel⟩
theorem k_l_r_sum : rLk R_law 75 R_rr y_r_sum b_r_sum 4 (some .int) 0 := ⟨q_link_l_r_sum, q_inst_r_sum, q_sel_r_sum, q_ini_r, q_code_r_sum, by decide +kernel⟩
theorem k_l_r_changes : rLk R_law 79 R_rr y_r_changes b_r_changes 3 (some .int) 1 := ⟨q_link_l_r_changes, q_inst_r_changes, q_sel_r_changes, q_ini_r, q_code_r_changes, by decide +kernel⟩
theorem k_l_m_put : rLk R_law 17 R_md y_m_put b_m_put 6 (some .int) 3 := ⟨q_link_l_m_put, q_inst_m_put, q_sel_m_put, q_ini_m, q_code_m_put, by decide +kernel⟩
theorem k_m_m_hindrance : rLk R_md 46 R_md y_m_hindrance b_m_hindrance 4 (some .int) 3 := ⟨q_link_m_m_hindrance, q_inst_m_hindrance, q_sel_m_hindrance, q_ini_m, q_code_m_hindrance, by decide +kernel⟩
theorem k_m_m_machine : rLk R_md 27 R_md y_m_machine b_m_machine 2 (some .boolean) 1 := ⟨q_link_m_m_machine, q_inst_m_machine, q_sel_m_machine, q_ini_m, q_code_m_machine, by decide +kernel⟩
theorem k_m_m_key : rLk R_md 35 R_md y_m_key b_m_key 2 (some .boolean) 1 := ⟨q_link_m_m_key, q_inst_m_key, q_sel_m_key, q_ini_m, q_code_m_key, by decide +kernel⟩
theorem k_m_m_fits : rLk R_md 38 R_md y_m_fits b_m_fits 2 (some .boolean) 1 := ⟨q_link_m_m_fits, q_inst_m_fits, q_sel_m_fits, q_ini_m, q_code_m_fits, by decide +kernel⟩
theorem k_m_m_works : rLk R_md 42 R_md y_m_works b_m_works 2 (some .boolean) 1 := ⟨q_link_m_m_works, q_inst_m_works, q_sel_m_works, q_ini_m, q_code_m_works, by decide +kernel⟩
theorem k_m_m_member : rLk R_md 31 R_md y_m_member b_m_member 2 (some .boolean) 1 := ⟨q_link_m_m_member, q_inst_m_member, q_sel_m_member, q_ini_m, q_code_m_member, by decide +kernel⟩
theorem k_m_m_found : rLk R_md 50 R_md y_m_found b_m_found 2 (some .int) 1 := ⟨q_link_m_m_found, q_inst_m_found, q_sel_m_found, q_ini_m, q_code_m_found, by decide +kernel⟩
theorem k_m_m_write : rLk R_md 54 R_md y_m_write b_m_write 4 none 3 := ⟨q_link_m_m_write, q_inst_m_write, q_sel_m_write, q_ini_m, q_code_m_write, by decide +kernel⟩
theorem k_l_m_get : rLk R_law 22 R_md y_m_get b_m_get 4 (some .int) 2 := ⟨q_link_l_m_get, q_inst_m_get, q_sel_m_get, q_ini_m, q_code_m_get, by decide +kernel⟩
theorem k_l_m_remove : rLk R_law 26 R_md y_m_remove b_m_remove 5 (some .int) 2 := ⟨q_link_l_m_remove, q_inst_m_remove, q_sel_m_remove, q_ini_m, q_code_m_remove, by decide +kernel⟩
theorem k_l_m_add : rLk R_law 30 R_md y_m_add b_m_add 6 (some .int) 3 := ⟨q_link_l_m_add, q_inst_m_add, q_sel_m_add, q_ini_m, q_code_m_add, by decide +kernel⟩
theorem k_l_m_down : rLk R_law 35 R_md y_m_down b_m_down 2 (some .boolean) 1 := ⟨q_link_l_m_down, q_inst_m_down, q_sel_m_down, q_ini_m, q_code_m_down, by decide +kernel⟩
theorem k_l_m_up : rLk R_law 40 R_md y_m_up b_m_up 3 (some .boolean) 2 := ⟨q_link_l_m_up, q_inst_m_up, q_sel_m_up, q_ini_m, q_code_m_up, by decide +kernel⟩
theorem k_l_m_join : rLk R_law 45 R_md y_m_join b_m_join 2 (some .int) 1 := ⟨q_link_l_m_join, q_inst_m_join, q_sel_m_join, q_ini_m, q_code_m_join, by decide +kernel⟩
theorem k_m_m_many : rLk R_md 58 R_md y_m_many b_m_many 3 (some .int) 0 := ⟨q_link_m_m_many, q_inst_m_many, q_sel_m_many, q_ini_m, q_code_m_many, by decide +kernel⟩
theorem k_l_m_leave : rLk R_law 49 R_md y_m_leave b_m_leave 2 (some .int) 1 := ⟨q_link_l_m_leave, q_inst_m_leave, q_sel_m_leave, q_ini_m, q_code_m_leave, by decide +kernel⟩
theorem k_l_m_lose : rLk R_law 53 R_md y_m_lose b_m_lose 2 (some .boolean) 1 := ⟨q_link_l_m_lose, q_inst_m_lose, q_sel_m_lose, q_ini_m, q_code_m_lose, by decide +kernel⟩
theorem k_l_m_tidy : rLk R_law 58 R_md y_m_tidy b_m_tidy 1 (some .int) 0 := ⟨q_link_l_m_tidy, q_inst_m_tidy, q_sel_m_tidy, q_ini_m, q_code_m_tidy, by decide +kernel⟩
theorem k_m_m_size : rLk R_md 62 R_md y_m_size b_m_size 3 (some .int) 0 := ⟨q_link_m_m_size, q_inst_m_size, q_sel_m_size, q_ini_m, q_code_m_size, by decide +kernel⟩
theorem k_l_m_size : rLk R_law 70 R_md y_m_size b_m_size 3 (some .int) 0 := ⟨q_link_l_m_size, q_inst_m_size, q_sel_m_size, q_ini_m, q_code_m_size, by decide +kernel⟩
theorem k_l_m_members : rLk R_law 62 R_md y_m_members b_m_members 1 (some .int) 0 := ⟨q_link_l_m_members, q_inst_m_members, q_sel_m_members, q_ini_m, q_code_m_members, by decide +kernel⟩
theorem k_l_m_working : rLk R_law 66 R_md y_m_working b_m_working 1 (some .int) 0 := ⟨q_link_l_m_working, q_inst_m_working, q_sel_m_working, q_ini_m, q_code_m_working, by decide +kernel⟩
theorem k_l_m_nextKey : rLk R_law 74 R_md y_m_nextKey b_m_nextKey 3 (some .int) 1 := ⟨q_link_l_m_nextKey, q_inst_m_nextKey, q_sel_m_nextKey, q_ini_m, q_code_m_nextKey, by decide +kernel⟩
theorem k_l_m_sum : rLk R_law 78 R_md y_m_sum b_m_sum 3 (some .int) 0 := ⟨q_link_l_m_sum, q_inst_m_sum, q_sel_m_sum, q_ini_m, q_code_m_sum, by decide +kernel⟩
theorem k_l_m_changes : rLk R_law 82 R_md y_m_changes b_m_changes 2 (some .int) 1 := ⟨q_link_l_m_changes, q_inst_m_changes, q_sel_m_changes, q_ini_m, q_code_m_changes, by decide +kernel⟩
end
section
section MORE
variable {p : Program} {l : Launch} {e : Env} {R : Room} {s : State} {m : MethodId} {args : Array Value} {below : List Frame} {meth : Method} {c : Code} {H : Heap} {locs : List Loc} {Q : State → Prop} {cells slots : Nat}
variable {cc : ByteArray} {nL pc : Nat} {ls : Array Slot} {rest : List Value}
theorem bI_0 {b : Prop} [Decidable b] : bI b = 0 ↔ ¬ b := by
  unfold bI; by_cases h : b
  · simp [h]
  · simp [h]
theorem bI_1 {b : Prop} [Decidable b] : bI b = 1 ↔ b := by
  unfold bI; by_cases h : b
  · simp [h]
  · simp [h]
theorem bI_congr {a b : Prop} [Decidable a] [Decidable b] (h : a ↔ b) : bI a = bI b := by
  unfold bI; by_cases q : b
  · rw [if_pos q, if_pos (h.mpr q)]
  · rw [if_neg q, if_neg (fun z => q (h.mp z))]
theorem bI_t {b : Prop} [Decidable b] (h : b) : nI 1 = bI b := by unfold bI; rw [if_pos h]; rfl
theorem bI_f {b : Prop} [Decidable b] (h : ¬ b) : nI 0 = bI b := by unfold bI; rw [if_neg h]; rfl
theorem bI_nI (b : Prop) [Decidable b] : bI b = nI (if b then 1 else 0) := by unfold bI; split <;> rfl
theorem ln_if_eq (hx : p.tables.exec = Jvm.exec) (hb : c.code = cc) {a : Nat} {off : Int} {tgt : Nat} (hdg : decode cc pc = .ok (.ifCond .eq off, 3)) (ht : (pc : Int) + off = (tgt : Int)) (h : a < 2 ^ 31) (kt : a = 0 → W p l e R s m args below meth c H locs cells slots Q (F0 m tgt ls rest)) (kf : ¬ a = 0 → W p l e R s m args below meth c H locs cells slots Q (F0 m (pc + 3) ls rest)) : W p l e R s m args below meth c H locs cells slots Q (F0 m pc ls (.int (nI a) :: rest)) :=
  lv_if_eq hx hb hdg ht (fun q => kt (Nat.eq_zero_of_not_pos fun z => nI_ne0 z h q)) (fun q => kf (fun z => q (by rw [z]; rfl)))
theorem ln_if_ne (hx : p.tables.exec = Jvm.exec) (hb : c.code = cc) {a : Nat} {off : Int} {tgt : Nat} (hdg : decode cc pc = .ok (.ifCond .ne off, 3)) (ht : (pc : Int) + off = (tgt : Int)) (h : a < 2 ^ 31) (kt : ¬ a = 0 → W p l e R s m args below meth c H locs cells slots Q (F0 m tgt ls rest)) (kf : a = 0 → W p l e R s m args below meth c H locs cells slots Q (F0 m (pc + 3) ls rest)) : W p l e R s m args below meth c H locs cells slots Q (F0 m pc ls (.int (nI a) :: rest)) :=
  lv_if_ne hx hb hdg ht (fun q => kt (fun z => q (by rw [z]; rfl))) (fun q => kf (Nat.eq_zero_of_not_pos fun z => nI_ne0 z h q))
theorem ln_if_le (hx : p.tables.exec = Jvm.exec) (hb : c.code = cc) {a : Nat} {off : Int} {tgt : Nat} (hdg : decode cc pc = .ok (.ifCond .le off, 3)) (ht : (pc : Int) + off = (tgt : Int)) (h : a < 2 ^ 31) (kt : a = 0 → W p l e R s m args below meth c H locs cells slots Q (F0 m tgt ls rest)) (kf : 0 < a → W p l e R s m args below meth c H locs cells slots Q (F0 m (pc + 3) ls rest)) : W p l e R s m args below meth c H locs cells slots Q (F0 m pc ls (.int (nI a) :: rest)) :=
  lv_if_le hx hb hdg ht (fun q => kt (Nat.eq_zero_of_not_pos fun z => nI_nle z h q)) (fun q => kf (Nat.pos_of_ne_zero fun z => q (by rw [z]; decide)))
theorem lb_if_eq (hx : p.tables.exec = Jvm.exec) (hb : c.code = cc) {P : Prop} [Decidable P] {off : Int} {tgt : Nat} (hdg : decode cc pc = .ok (.ifCond .eq off, 3)) (ht : (pc : Int) + off = (tgt : Int)) (kt : ¬ P → W p l e R s m args below meth c H locs cells slots Q (F0 m tgt ls rest)) (kf : P → W p l e R s m args below meth c H locs cells slots Q (F0 m (pc + 3) ls rest)) : W p l e R s m args below meth c H locs cells slots Q (F0 m pc ls (.int (bI P) :: rest)) :=
  lv_if_eq hx hb hdg ht (fun q => kt (bI_0.mp q)) (fun q => kf (Decidable.not_not.mp fun z => q (bI_0.mpr z)))
theorem lb_if_ne (hx : p.tables.exec = Jvm.exec) (hb : c.code = cc) {P : Prop} [Decidable P] {off : Int} {tgt : Nat} (hdg : decode cc pc = .ok (.ifCond .ne off, 3)) (ht : (pc : Int) + off = (tgt : Int)) (kt : P → W p l e R s m args below meth c H locs cells slots Q (F0 m tgt ls rest)) (kf : ¬ P → W p l e R s m args below meth c H locs cells slots Q (F0 m (pc + 3) ls rest)) : W p l e R s m args below meth c H locs cells slots Q (F0 m pc ls (.int (bI P) :: rest)) :=
  lv_if_ne hx hb hdg ht (fun q => kt (Decidable.not_not.mp fun z => q (bI_0.mpr z))) (fun q => kf (bI_0.mp q))
theorem ln_dec {a : Nat} (h : 0 < a) : nI a + Int32.ofInt (-1) = nI (a - 1) := sb_m1 h
theorem i2b_all : ∀ a, a < 128 → (nI a).toInt8.toInt32 = nI a := by decide +kernel
theorem i2b_small {a : Nat} (h : a < 128) : (nI a).toInt8.toInt32 = nI a := i2b_all a h
theorem nar_small {a : Nat} (h : a < 128) : vp_nar .byte (nI a) = nI a := by rw [vp_nar_byte]; exact i2b_all a h
/-! lookups in a changed state -/
theorem up2_ap (σ : St) (a b : Nat) (v : Int32) (x y : Nat) : up2 σ a b v x y = if x = a ∧ y = b then v else σ x y := by
  unfold up2 va_up upd
  by_cases h : x = a
  · subst h; simp
  · simp [h]
theorem up2_s (σ : St) (a b : Nat) (v : Int32) : up2 σ a b v a b = v := by rw [up2_ap]; simp
theorem up2_g {σ : St} {a b : Nat} {v : Int32} {x : Nat} (h : x ≠ a) : up2 σ a b v x = σ x := by funext y; rw [up2_ap, if_neg (fun q => h q.1)]
theorem up2_n {σ : St} {a b : Nat} {v : Int32} {x y : Nat} (h : y ≠ b) : up2 σ a b v x y = σ x y := by rw [up2_ap, if_neg (fun q => h q.2)]
/-! numbers in range -/
abbrev inM (x : Int32) (n : Nat) : Prop := ¬ x < 0 ∧ ¬ nI n ≤ x
theorem inM_of {x : Int32} {n : Nat} (h : inM x n) (hn : n < 2 ^ 31) : ∃ j, j < n ∧ x = nI j := by
  rcases pk_ix x hn with q | q | q
  · exact absurd q h.1
  · exact absurd q h.2
  · exact q
theorem inM_nI {j n : Nat} (h : j < n) (hn : n < 2 ^ 31) : inM (nI j) n := ⟨nI_pos (by omega), nI_ge h hn⟩
abbrev isNum (x : Int32) : Prop := ¬ x < (-9999) ∧ ¬ nI 9999 < x
abbrev cBAD : Int32 := -100000
abbrev cNONE : Int32 := -200000
abbrev cREF : Int32 := -300000
/-! the bits of a small set -/
theorem bit6 : ∀ M, M < 64 → ∀ j, j < 6 → (nI M >>> (nI j &&& 31)) &&& nI 1 = bI (M.testBit j = true) := by decide +kernel
def cb (s : Nat) : Nat → Nat
  | 0 => 0
  | j + 1 => cb s j + (if s.testBit j = true then 1 else 0)
theorem cb_le (s : Nat) : ∀ j, cb s j ≤ j
  | 0 => Nat.le_refl _
  | j + 1 => by have := cb_le s j; unfold cb; split <;> omega
abbrev mem (M : Nat) (x : Int32) : Prop := inM x 6 ∧ M.testBit x.toNatClampNeg = true
theorem mem_nI {M j : Nat} (h : j < 6) : mem M (nI j) ↔ M.testBit j = true := by
  unfold mem
  rw [nI_clamp (by omega)]
  exact ⟨fun q => q.2, fun q => ⟨inM_nI h (by omega), q⟩⟩
theorem mem_of {M : Nat} {x : Int32} (h : mem M x) : ∃ j, j < 6 ∧ x = nI j ∧ M.testBit j = true := by
  obtain ⟨j, hj, rfl⟩ := inM_of h.1 (by omega)
  exact ⟨j, hj, rfl, (mem_nI hj).mp h⟩
def ush (x : Int32) (n : Nat) : Int32 := (x.toUInt32 >>> ((nI n).toUInt32 &&& Int32.toUInt32 31)).toInt32
/-- the code's mixing of a number -/
def mx (x : Int32) : Int32 :=
  ((((x * 40503 + nI 30011) ^^^ ush (x * 40503 + nI 30011) 7) * nI 26699) ^^^ ush (((x * 40503 + nI 30011) ^^^ ush (x * 40503 + nI 30011) 7) * nI 26699) 11) &&& nI 4095
end MORE
end
section
/-! what the small methods do to the state -/
/-- store: a machine takes the newest at work over -/
def stF (σ : St) (m k : Nat) : St := if σ 5 (m * 16 + k) < σ 0 13 then up2 (up2 (up2 σ 5 (m * 16 + k) (σ 0 13)) 6 (m * 16 + k) (σ 0 14)) 7 (m * 16 + k) (σ 0 15) else σ
/-- hear: the newest at work becomes what a machine has -/
def hrF (σ : St) (m k : Nat) : St := if σ 0 13 < σ 5 (m * 16 + k) then up2 (up2 (up2 σ 0 13 (σ 5 (m * 16 + k))) 0 14 (σ 6 (m * 16 + k))) 0 15 (σ 7 (m * 16 + k)) else σ
def erF (σ : St) (m k : Nat) : St := up2 (up2 (up2 σ 5 (m * 16 + k) (nI 0)) 6 (m * 16 + k) (nI 0)) 7 (m * 16 + k) (nI 0)
def swF (σ : St) : St := up2 (up2 (up2 (up2 σ 0 12 (nI 0)) 0 13 (nI 0)) 0 14 (nI 0)) 0 15 (nI 0)
/-- hint: what a machine keeps for one that is away -/
def hnF (σ : St) (h m k : Nat) : St := if σ 8 ((h * 6 + m) * 16 + k) < σ 0 13 then up2 (up2 (up2 σ 8 ((h * 6 + m) * 16 + k) (σ 0 13)) 9 ((h * 6 + m) * 16 + k) (σ 0 14)) 10 ((h * 6 + m) * 16 + k) (σ 0 15) else σ
abbrev nmF (s v t : Int32) : Int32 := if s = 0 ∨ ¬ t = 0 then cNONE else v
/-- of a message: everything stays but the two counters; a lost one costs one of those that may be lost -/
def ctP (σ : St) (r : Int32) (σ' : St) : Prop := isB r ∧ (∀ a b, ¬ (a = 0 ∧ (b = 19 ∨ b = 20)) → σ' a b = σ a b) ∧ ∀ ll, ll ≤ 30 → σ 0 20 = nI ll → ∃ l2, l2 ≤ ll ∧ σ' 0 20 = nI l2 ∧ (r = 0 → l2 < ll)
theorem cb6_nI {s i : Nat} (hs : s < 64) (hi : i < 6) : nI (cb s i) + ((nI s >>> (nI i &&& 31)) &&& nI 1) = nI (cb s (i + 1)) := by
  rw [bit6 s hs i hi, bI_nI, nI_add]; rfl
end
section
set_option maxHeartbeats 4000000 in
set_option maxRecDepth 100000 in
theorem c_r_isMachine (l : Launch) (x : Int32)  : rCs l y_r_isMachine w_r_isMachine 0 0 [.int (x)] (bI (inM x 6)) := by
  refine rCs.mk (b := b_r_isMachine) (nL := 1) (rt := .boolean) R_rr (by decide) rfl (Nat.le_of_ble_eq_true rfl) ?_
  intro p e s mi args below meth c S hr hlk ls hl
  have hx := S.1
  have hb := S.2.1
  have hts := S.2.2.2.2
  have hown := S.2.2.2.1
  have hl : lv_has ls 1 [(0, .int (x))] := hl
  refine lv_iload_n hx hb d_r_isMachine_0 rfl (lv_at hl 0 rfl) ?_
  refine lv_if_lt (tgt := 14) hx hb d_r_isMachine_1 (by decide) (fun c_1 => ?_) (fun c_1 => ?_)
  · refine lv_iconst (v := nI 0) hx hb d_r_isMachine_14 (by decide) ?_
    exact s_zret S hr hlk d_r_isMachine_15 (isB_n0) (bI_f (fun h => by first | exact h.1 c_1 | exact h.2 c_7))
  · refine lv_iload_n hx hb d_r_isMachine_4 rfl (lv_at hl 0 rfl) ?_
    refine lv_bipush (v := nI 6) hx hb d_r_isMachine_5 (by decide) ?_
    refine lv_icmp_ge (tgt := 14) hx hb d_r_isMachine_7 (by decide) (fun c_7 => ?_) (fun c_7 => ?_)
    · refine lv_iconst (v := nI 0) hx hb d_r_isMachine_14 (by decide) ?_
      exact s_zret S hr hlk d_r_isMachine_15 (isB_n0) (bI_f (fun h => by first | exact h.1 c_1 | exact h.2 c_7))
    · refine lv_iconst (v := nI 1) hx hb d_r_isMachine_10 (by decide) ?_
      refine lv_goto (tgt := 15) hx hb d_r_isMachine_11 (by decide) ?_
      exact s_zret S hr hlk d_r_isMachine_15 (isB_n1) (bI_t ⟨c_1, c_7⟩)

set_option maxHeartbeats 4000000 in
set_option maxRecDepth 100000 in
theorem c_r_isKey (l : Launch) (x : Int32)  : rCs l y_r_isKey w_r_isKey 0 0 [.int (x)] (bI (inM x 16)) := by
  refine rCs.mk (b := b_r_isKey) (nL := 1) (rt := .boolean) R_rr (by decide) rfl (Nat.le_of_ble_eq_true rfl) ?_
  intro p e s mi args below meth c S hr hlk ls hl
  have hx := S.1
  have hb := S.2.1
  have hts := S.2.2.2.2
  have hown := S.2.2.2.1
  have hl : lv_has ls 1 [(0, .int (x))] := hl
  refine lv_iload_n hx hb d_r_isKey_0 rfl (lv_at hl 0 rfl) ?_
  refine lv_if_lt (tgt := 14) hx hb d_r_isKey_1 (by decide) (fun c_1 => ?_) (fun c_1 => ?_)
  · refine lv_iconst (v := nI 0) hx hb d_r_isKey_14 (by decide) ?_
    exact s_zret S hr hlk d_r_isKey_15 (isB_n0) (bI_f (fun h => by first | exact h.1 c_1 | exact h.2 c_7))
  · refine lv_iload_n hx hb d_r_isKey_4 rfl (lv_at hl 0 rfl) ?_
    refine lv_bipush (v := nI 16) hx hb d_r_isKey_5 (by decide) ?_
    refine lv_icmp_ge (tgt := 14) hx hb d_r_isKey_7 (by decide) (fun c_7 => ?_) (fun c_7 => ?_)
    · refine lv_iconst (v := nI 0) hx hb d_r_isKey_14 (by decide) ?_
      exact s_zret S hr hlk d_r_isKey_15 (isB_n0) (bI_f (fun h => by first | exact h.1 c_1 | exact h.2 c_7))
    · refine lv_iconst (v := nI 1) hx hb d_r_isKey_10 (by decide) ?_
      refine lv_goto (tgt := 15) hx hb d_r_isKey_11 (by decide) ?_
      exact s_zret S hr hlk d_r_isKey_15 (isB_n1) (bI_t ⟨c_1, c_7⟩)

set_option maxHeartbeats 4000000 in
set_option maxRecDepth 100000 in
theorem c_r_isNumber (l : Launch) (x : Int32)  : rCs l y_r_isNumber w_r_isNumber 0 0 [.int (x)] (bI (isNum x)) := by
  refine rCs.mk (b := b_r_isNumber) (nL := 1) (rt := .boolean) R_rr (by decide) rfl (Nat.le_of_ble_eq_true rfl) ?_
  intro p e s mi args below meth c S hr hlk ls hl
  have hx := S.1
  have hb := S.2.1
  have hts := S.2.2.2.2
  have hown := S.2.2.2.1
  have hl : lv_has ls 1 [(0, .int (x))] := hl
  refine lv_iload_n hx hb d_r_isNumber_0 rfl (lv_at hl 0 rfl) ?_
  refine lv_sipush (v := (-9999)) hx hb d_r_isNumber_1 (by decide) ?_
  refine lv_icmp_lt (tgt := 18) hx hb d_r_isNumber_4 (by decide) (fun c_4 => ?_) (fun c_4 => ?_)
  · refine lv_iconst (v := nI 0) hx hb d_r_isNumber_18 (by decide) ?_
    exact s_zret S hr hlk d_r_isNumber_19 (isB_n0) (bI_f (fun h => by first | exact h.1 c_4 | exact h.2 c_11))
  · refine lv_iload_n hx hb d_r_isNumber_7 rfl (lv_at hl 0 rfl) ?_
    refine lv_sipush (v := nI 9999) hx hb d_r_isNumber_8 (by decide) ?_
    refine lv_icmp_gt (tgt := 18) hx hb d_r_isNumber_11 (by decide) (fun c_11 => ?_) (fun c_11 => ?_)
    · refine lv_iconst (v := nI 0) hx hb d_r_isNumber_18 (by decide) ?_
      exact s_zret S hr hlk d_r_isNumber_19 (isB_n0) (bI_f (fun h => by first | exact h.1 c_4 | exact h.2 c_11))
    · refine lv_iconst (v := nI 1) hx hb d_r_isNumber_14 (by decide) ?_
      refine lv_goto (tgt := 19) hx hb d_r_isNumber_15 (by decide) ?_
      exact s_zret S hr hlk d_r_isNumber_19 (isB_n1) (bI_t ⟨c_4, c_11⟩)

set_option maxHeartbeats 4000000 in
set_option maxRecDepth 100000 in
theorem c_r_mixed (l : Launch) (x : Int32)  : rCs l y_r_mixed w_r_mixed 0 0 [.int (x)] (mx x) := by
  refine rCs.mk (b := b_r_mixed) (nL := 2) (rt := .int) R_rr (by decide) rfl (Nat.le_of_ble_eq_true rfl) ?_
  intro p e s mi args below meth c S hr hlk ls hl
  have hx := S.1
  have hb := S.2.1
  have hts := S.2.2.2.2
  have hown := S.2.2.2.1
  have hl : lv_has ls 2 [(0, .int (x))] := hl
  refine lv_iload_n hx hb d_r_mixed_0 rfl (lv_at hl 0 rfl) ?_
  refine lv_ldc (v := (40503)) hx hb hown (hts _ q_const_r_62) d_r_mixed_1 ?_
  refine lv_imul hx hb d_r_mixed_3 ?_
  refine lv_sipush (v := nI 30011) hx hb d_r_mixed_4 (by decide) ?_
  refine lv_iadd hx hb d_r_mixed_7 ?_
  refine lv_istore_n (lv' := [(1, .int (((x) * ((40503))) + (nI 30011))), (0, .int (x))]) hx hb d_r_mixed_8 rfl hl (by decide) rfl (fun ls hl => ?_)
  refine lv_iload_n hx hb d_r_mixed_9 rfl (lv_at hl 0 rfl) ?_
  refine lv_iload_n hx hb d_r_mixed_10 rfl (lv_at hl 0 rfl) ?_
  refine lv_bipush (v := nI 7) hx hb d_r_mixed_11 (by decide) ?_
  refine lv_iushr hx hb d_r_mixed_13 rfl ?_
  refine lv_ixor hx hb d_r_mixed_14 ?_
  refine lv_istore_n (lv' := [(1, .int ((((x) * ((40503))) + (nI 30011)) ^^^ (((((x) * ((40503))) + (nI 30011)).toUInt32 >>> ((nI 7).toUInt32 &&& Int32.toUInt32 31)).toInt32))), (0, .int (x))]) hx hb d_r_mixed_15 rfl hl (by decide) rfl (fun ls hl => ?_)
  refine lv_iload_n hx hb d_r_mixed_16 rfl (lv_at hl 0 rfl) ?_
  refine lv_sipush (v := nI 26699) hx hb d_r_mixed_17 (by decide) ?_
  refine lv_imul hx hb d_r_mixed_20 ?_
  refine lv_istore_n (lv' := [(1, .int (((((x) * ((40503))) + (nI 30011)) ^^^ (((((x) * ((40503))) + (nI 30011)).toUInt32 >>> ((nI 7).toUInt32 &&& Int32.toUInt32 31)).toInt32)) * (nI 26699))), (0, .int (x))]) hx hb d_r_mixed_21 rfl hl (by decide) rfl (fun ls hl => ?_)
  refine lv_iload_n hx hb d_r_mixed_22 rfl (lv_at hl 0 rfl) ?_
  refine lv_iload_n hx hb d_r_mixed_23 rfl (lv_at hl 0 rfl) ?_
  refine lv_bipush (v := nI 11) hx hb d_r_mixed_24 (by decide) ?_
  refine lv_iushr hx hb d_r_mixed_26 rfl ?_
  refine lv_ixor hx hb d_r_mixed_27 ?_
  refine lv_sipush (v := nI 4095) hx hb d_r_mixed_28 (by decide) ?_
  refine lv_iand hx hb d_r_mixed_31 ?_
  exact s_iret S hr hlk d_r_mixed_32 (rfl)

set_option maxHeartbeats 4000000 in
set_option maxRecDepth 100000 in
theorem c_r_ones (l : Launch) (x : Nat) (hx6 : x < 64) : rCs l y_r_ones w_r_ones 0 0 [.int (nI x)] (nI (cb x 6)) := by
  refine rCs.mk (b := b_r_ones) (nL := 3) (rt := .int) R_rr (by decide) rfl (Nat.le_of_ble_eq_true rfl) ?_
  intro p e s mi args below meth c S hr hlk ls hl
  have hx := S.1
  have hb := S.2.1
  have hts := S.2.2.2.2
  have hown := S.2.2.2.1
  have hl : lv_has ls 3 [(0, .int (nI x))] := hl
  refine lv_iconst (v := nI 0) hx hb d_r_ones_0 (by decide) ?_
  refine lv_istore_n (lv' := [(1, .int (nI 0)), (0, .int (nI x))]) hx hb d_r_ones_1 rfl hl (by decide) rfl (fun ls hl => ?_)
  refine lv_iconst (v := nI 0) hx hb d_r_ones_2 (by decide) ?_
  refine lv_istore_n (lv' := [(2, .int (nI 0)), (1, .int (nI 0)), (0, .int (nI x))]) hx hb d_r_ones_3 rfl hl (by decide) rfl (fun ls hl => ?_)
  have L4 : ∀ (n : Nat) (i : Nat) (ls : Array Slot), i ≤ 6 → 7 ≤ i + n → lv_has ls 3 [(0, .int (nI x)), (1, .int (nI (cb x i))), (2, .int (nI i))] → W p l e { frames := 0, cells := 0, slots := 0, locals := 0 } s mi args below meth c s.heap [] 0 0 (MQ below (QcRead (nI (cb x 6))) args s 0 0 (fun _ => False)) (F0 mi 4 ls []) := by
    intro n
    induction n with
    | zero =>
      intro i ls hi hn hl
      omega
    | succ n ih4 =>
      intro i ls hi hn hl
      refine lv_iload_n hx hb d_r_ones_4 rfl (lv_at hl 2 rfl) ?_
      refine lv_bipush (v := nI 6) hx hb d_r_ones_5 (by decide) ?_
      refine ln_icmp_ge (tgt := 24) hx hb d_r_ones_7 (by decide) (⟨by omega, by omega⟩) (fun c_7 => ?_) (fun c_7 => ?_)
      · refine lv_iload_n hx hb d_r_ones_24 rfl (lv_at hl 1 rfl) ?_
        have hi6 : i = 6 := by omega
        subst hi6
        exact s_iret S hr hlk d_r_ones_25 (rfl)
      · refine lv_iload_n hx hb d_r_ones_10 rfl (lv_at hl 1 rfl) ?_
        refine lv_iload_n hx hb d_r_ones_11 rfl (lv_at hl 0 rfl) ?_
        refine lv_iload_n hx hb d_r_ones_12 rfl (lv_at hl 2 rfl) ?_
        refine lv_ishr hx hb d_r_ones_13 ?_
        refine lv_iconst (v := nI 1) hx hb d_r_ones_14 (by decide) ?_
        refine lv_iand hx hb d_r_ones_15 ?_
        refine lv_iadd hx hb d_r_ones_16 ?_
        refine ln_top (cb6_nI hx6 (by omega)) ?_
        refine lv_istore_n (lv' := [(1, .int (nI (cb x (i + 1)))), (0, .int (nI x)), (2, .int (nI i))]) hx hb d_r_ones_17 rfl hl (by decide) rfl (fun ls hl => ?_)
        refine ln_iinc (lv' := [(2, .int (nI (i + 1))), (1, .int (nI (cb x (i + 1)))), (0, .int (nI x))]) hx hb d_r_ones_18 hl (k := 2) rfl rfl (by decide) rfl (fun ls hl => ?_)
        refine lv_goto (tgt := 4) hx hb d_r_ones_21 (by decide) ?_
        exact ih4 (i + 1) _ (by omega) (by omega) (lv_sub hl [2, 1, 0] rfl)
  exact L4 7 (0) _ (by omega) (by omega) (lv_sub hl [2, 1, 0] rfl)

set_option maxHeartbeats 4000000 in
set_option maxRecDepth 100000 in
theorem c_r_sumOf (l : Launch) (a : Int32) (b : Int32) (c0 : Int32)  : rCs l y_r_sumOf w_r_sumOf 0 0 [.int (a), .int (b), .int (c0)] ((a * nI 31 + b) * nI 31 + (if c0 = 0 then nI 3 else nI 7)) := by
  refine rCs.mk (b := b_r_sumOf) (nL := 4) (rt := .int) R_rr (by decide) rfl (Nat.le_of_ble_eq_true rfl) ?_
  intro p e s mi args below meth c S hr hlk ls hl
  have hx := S.1
  have hb := S.2.1
  have hts := S.2.2.2.2
  have hown := S.2.2.2.1
  have hl : lv_has ls 4 [(0, .int (a)), (1, .int (b)), (2, .int (c0))] := hl
  refine lv_iload_n hx hb d_r_sumOf_0 rfl (lv_at hl 0 rfl) ?_
  refine lv_bipush (v := nI 31) hx hb d_r_sumOf_1 (by decide) ?_
  refine lv_imul hx hb d_r_sumOf_3 ?_
  refine lv_iload_n hx hb d_r_sumOf_4 rfl (lv_at hl 1 rfl) ?_
  refine lv_iadd hx hb d_r_sumOf_5 ?_
  refine lv_istore_n (lv' := [(3, .int (((a) * (nI 31)) + (b))), (0, .int (a)), (1, .int (b)), (2, .int (c0))]) hx hb d_r_sumOf_6 rfl hl (by decide) rfl (fun ls hl => ?_)
  refine lv_iload_n hx hb d_r_sumOf_7 rfl (lv_at hl 0 rfl) ?_
  refine lv_bipush (v := nI 31) hx hb d_r_sumOf_8 (by decide) ?_
  refine lv_imul hx hb d_r_sumOf_10 ?_
  refine lv_iload_n hx hb d_r_sumOf_11 rfl (lv_at hl 3 rfl) ?_
  refine lv_if_eq (tgt := 20) hx hb d_r_sumOf_12 (by decide) (fun c_12 => ?_) (fun c_12 => ?_)
  · refine lv_iconst (v := nI 3) hx hb d_r_sumOf_20 (by decide) ?_
    refine lv_iadd hx hb d_r_sumOf_21 ?_
    exact s_iret S hr hlk d_r_sumOf_22 (by rw [if_pos c_12])
  · refine lv_bipush (v := nI 7) hx hb d_r_sumOf_15 (by decide) ?_
    refine lv_goto (tgt := 21) hx hb d_r_sumOf_17 (by decide) ?_
    refine lv_iadd hx hb d_r_sumOf_21 ?_
    exact s_iret S hr hlk d_r_sumOf_22 (by rw [if_neg c_12])

set_option maxHeartbeats 4000000 in
set_option maxRecDepth 100000 in
theorem c_r_isMember (l : Launch) (x : Int32) (M : Nat) (hM : M < 64) : rCi wr tr_ l y_r_isMember w_r_isMember 1 20 [.int (x)] (fun σ => σ 0 0 = nI M) (fun σ r σ' => σ' = σ ∧ r = bI (mem M x)) := by
  refine rCi.mk (b := b_r_isMember) (nL := 2) (rt := .boolean) R_rr (by decide) rfl (Nat.le_of_ble_eq_true rfl) ?_
  intro D ad cs σ0 hpre p e s mi args below meth c A S hr hlk hw ls hl
  have hx := S.1
  have hb := S.2.1
  have hts := S.2.2.2.2
  have hown := S.2.2.2.1
  have hl : lv_has ls 2 [(0, .ref (ad 0)), (1, .int (x))] := hl
  refine lv_iload_n hx hb d_r_isMember_0 rfl (lv_at hl 1 rfl) ?_
  refine r_calls (rest := []) S k_r_r_isMachine (c_r_isMachine l (x)) ⟨by decide, by decide⟩ rfl hl.1 rfl (Nat.le_of_ble_eq_true rfl) ⟨Nat.le_refl _, Nat.le_refl _⟩ d_r_isMember_1 ?_
  refine lb_if_eq (tgt := 22) hx hb d_r_isMember_4 (by decide) (fun c_4 => ?_) (fun c_4 => ?_)
  · refine lv_iconst (v := nI 0) hx hb d_r_isMember_22 (by decide) ?_
    exact r_zret S hr hlk hw d_r_isMember_23 (isB_n0) (⟨rfl, bI_f (fun h => by first | exact c_15 ((mem_nI hj).mp h) | exact c_4 h.1)⟩)
  · refine lv_aload_n hx hb d_r_isMember_7 rfl (lv_at hl 0 rfl) ?_
    refine rg_0 S hw d_r_isMember_8 ?_
    refine ln_top (hpre) ?_
    refine lv_iload_n hx hb d_r_isMember_11 rfl (lv_at hl 1 rfl) ?_
    refine lv_ishr hx hb d_r_isMember_12 ?_
    refine lv_iconst (v := nI 1) hx hb d_r_isMember_13 (by decide) ?_
    refine lv_iand hx hb d_r_isMember_14 ?_
    obtain ⟨j, hj, ej⟩ := inM_of c_4 (by omega)
    subst ej
    refine ln_top (bit6 M hM j hj) ?_
    refine lb_if_eq (tgt := 22) hx hb d_r_isMember_15 (by decide) (fun c_15 => ?_) (fun c_15 => ?_)
    · refine lv_iconst (v := nI 0) hx hb d_r_isMember_22 (by decide) ?_
      exact r_zret S hr hlk hw d_r_isMember_23 (isB_n0) (⟨rfl, bI_f (fun h => by first | exact c_15 ((mem_nI hj).mp h) | exact c_4 h.1)⟩)
    · refine lv_iconst (v := nI 1) hx hb d_r_isMember_18 (by decide) ?_
      refine lv_goto (tgt := 23) hx hb d_r_isMember_19 (by decide) ?_
      exact r_zret S hr hlk hw d_r_isMember_23 (isB_n1) (⟨rfl, bI_t ((mem_nI hj).mpr c_15)⟩)

set_option maxHeartbeats 4000000 in
set_option maxRecDepth 100000 in
theorem c_r_isWorking (l : Launch) (x : Int32) (M : Nat) (hM : M < 64) : rCi wr tr_ l y_r_isWorking w_r_isWorking 1 20 [.int (x)] (fun σ => σ 0 1 = nI M) (fun σ r σ' => σ' = σ ∧ r = bI (mem M x)) := by
  refine rCi.mk (b := b_r_isWorking) (nL := 2) (rt := .boolean) R_rr (by decide) rfl (Nat.le_of_ble_eq_true rfl) ?_
  intro D ad cs σ0 hpre p e s mi args below meth c A S hr hlk hw ls hl
  have hx := S.1
  have hb := S.2.1
  have hts := S.2.2.2.2
  have hown := S.2.2.2.1
  have hl : lv_has ls 2 [(0, .ref (ad 0)), (1, .int (x))] := hl
  refine lv_iload_n hx hb d_r_isWorking_0 rfl (lv_at hl 1 rfl) ?_
  refine r_calls (rest := []) S k_r_r_isMachine (c_r_isMachine l (x)) ⟨by decide, by decide⟩ rfl hl.1 rfl (Nat.le_of_ble_eq_true rfl) ⟨Nat.le_refl _, Nat.le_refl _⟩ d_r_isWorking_1 ?_
  refine lb_if_eq (tgt := 22) hx hb d_r_isWorking_4 (by decide) (fun c_4 => ?_) (fun c_4 => ?_)
  · refine lv_iconst (v := nI 0) hx hb d_r_isWorking_22 (by decide) ?_
    exact r_zret S hr hlk hw d_r_isWorking_23 (isB_n0) (⟨rfl, bI_f (fun h => by first | exact c_15 ((mem_nI hj).mp h) | exact c_4 h.1)⟩)
  · refine lv_aload_n hx hb d_r_isWorking_7 rfl (lv_at hl 0 rfl) ?_
    refine rg_1 S hw d_r_isWorking_8 ?_
    refine ln_top (hpre) ?_
    refine lv_iload_n hx hb d_r_isWorking_11 rfl (lv_at hl 1 rfl) ?_
    refine lv_ishr hx hb d_r_isWorking_12 ?_
    refine lv_iconst (v := nI 1) hx hb d_r_isWorking_13 (by decide) ?_
    refine lv_iand hx hb d_r_isWorking_14 ?_
    obtain ⟨j, hj, ej⟩ := inM_of c_4 (by omega)
    subst ej
    refine ln_top (bit6 M hM j hj) ?_
    refine lb_if_eq (tgt := 22) hx hb d_r_isWorking_15 (by decide) (fun c_15 => ?_) (fun c_15 => ?_)
    · refine lv_iconst (v := nI 0) hx hb d_r_isWorking_22 (by decide) ?_
      exact r_zret S hr hlk hw d_r_isWorking_23 (isB_n0) (⟨rfl, bI_f (fun h => by first | exact c_15 ((mem_nI hj).mp h) | exact c_4 h.1)⟩)
    · refine lv_iconst (v := nI 1) hx hb d_r_isWorking_18 (by decide) ?_
      refine lv_goto (tgt := 23) hx hb d_r_isWorking_19 (by decide) ?_
      exact r_zret S hr hlk hw d_r_isWorking_23 (isB_n1) (⟨rfl, bI_t ((mem_nI hj).mpr c_15)⟩)

set_option maxHeartbeats 4000000 in
set_option maxRecDepth 100000 in
theorem c_r_store (l : Launch) (m : Nat) (k : Nat) (hm : m < 6) (hk : k < 16) : rCv wr tr_ l y_r_store w_r_store 0 0 [.int (nI m), .int (nI k)] (fun σ => isB (σ 0 15)) (fun σ σ' => σ' = stF σ m k) := by
  refine rCv.mk (b := b_r_store) (nL := 4) R_rr (by decide) rfl (Nat.le_of_ble_eq_true rfl) ?_
  intro D ad cs σ0 hpre p e s mi args below meth c A S hr hlk hw ls hl
  have hx := S.1
  have hb := S.2.1
  have hts := S.2.2.2.2
  have hown := S.2.2.2.1
  have hl : lv_has ls 4 [(0, .ref (ad 0)), (1, .int (nI m)), (2, .int (nI k))] := hl
  refine lv_iload_n hx hb d_r_store_0 rfl (lv_at hl 1 rfl) ?_
  refine lv_bipush (v := nI 16) hx hb d_r_store_1 (by decide) ?_
  refine ln_imul hx hb d_r_store_3 ?_
  refine lv_iload_n hx hb d_r_store_4 rfl (lv_at hl 2 rfl) ?_
  refine ln_iadd hx hb d_r_store_5 ?_
  refine lv_istore_n (lv' := [(3, .int (nI ((m * 16) + k))), (0, .ref (ad 0)), (1, .int (nI m)), (2, .int (nI k))]) hx hb d_r_store_6 rfl hl (by decide) rfl (fun ls hl => ?_)
  refine lv_aload_n hx hb d_r_store_7 rfl (lv_at hl 1 rfl) ?_
  refine rg_13 S hw d_r_store_8 ?_
  refine lv_aload_n hx hb d_r_store_11 rfl (lv_at hl 1 rfl) ?_
  refine rg_5 S hw d_r_store_12 ?_
  refine lv_iload_n hx hb d_r_store_15 rfl (lv_at hl 0 rfl) ?_
  refine rl_5 S hw d_r_store_16 (by omega) ?_
  refine lv_icmp_le (tgt := 50) hx hb d_r_store_17 (by decide) (fun c_17 => ?_) (fun c_17 => ?_)
  · exact r_vret S hr hlk hw d_r_store_50 (by unfold stF; rw [if_neg (show ¬ σ0 5 (m * 16 + k) < σ0 0 13 from fun h => absurd c_17 (Int32.not_le.mpr h))])
  · refine lv_aload_n hx hb d_r_store_20 rfl (lv_at hl 1 rfl) ?_
    refine rg_5 S hw d_r_store_21 ?_
    refine lv_iload_n hx hb d_r_store_24 rfl (lv_at hl 0 rfl) ?_
    refine lv_aload_n hx hb d_r_store_25 rfl (lv_at hl 1 rfl) ?_
    refine rg_13 S hw d_r_store_26 ?_
    refine rs_5 S hw d_r_store_29 (by omega) (fun H locs hw => ?_)
    refine lv_aload_n hx hb d_r_store_30 rfl (lv_at hl 1 rfl) ?_
    refine rg_6 S hw d_r_store_31 ?_
    refine lv_iload_n hx hb d_r_store_34 rfl (lv_at hl 0 rfl) ?_
    refine lv_aload_n hx hb d_r_store_35 rfl (lv_at hl 1 rfl) ?_
    refine rg_14 S hw d_r_store_36 ?_
    refine rs_6 S hw d_r_store_39 (by omega) (fun H locs hw => ?_)
    refine lv_aload_n hx hb d_r_store_40 rfl (lv_at hl 1 rfl) ?_
    refine rg_7 S hw d_r_store_41 ?_
    refine lv_iload_n hx hb d_r_store_44 rfl (lv_at hl 0 rfl) ?_
    refine lv_aload_n hx hb d_r_store_45 rfl (lv_at hl 1 rfl) ?_
    refine rg_15 S hw d_r_store_46 ?_
    refine rs_7 S hw d_r_store_49 (by omega) (hpre) (fun H locs hw => ?_)
    exact r_vret S hr hlk hw d_r_store_50 (by unfold stF; rw [if_pos (Int32.not_le.mp c_17)]; rfl)

set_option maxHeartbeats 4000000 in
set_option maxRecDepth 100000 in
theorem c_r_hear (l : Launch) (m : Nat) (k : Nat) (hm : m < 6) (hk : k < 16) : rCv wr tr_ l y_r_hear w_r_hear 0 0 [.int (nI m), .int (nI k)] (fun σ => isB (σ 7 (m * 16 + k))) (fun σ σ' => σ' = hrF σ m k) := by
  refine rCv.mk (b := b_r_hear) (nL := 4) R_rr (by decide) rfl (Nat.le_of_ble_eq_true rfl) ?_
  intro D ad cs σ0 hpre p e s mi args below meth c A S hr hlk hw ls hl
  have hx := S.1
  have hb := S.2.1
  have hts := S.2.2.2.2
  have hown := S.2.2.2.1
  have hl : lv_has ls 4 [(0, .ref (ad 0)), (1, .int (nI m)), (2, .int (nI k))] := hl
  refine lv_iload_n hx hb d_r_hear_0 rfl (lv_at hl 1 rfl) ?_
  refine lv_bipush (v := nI 16) hx hb d_r_hear_1 (by decide) ?_
  refine ln_imul hx hb d_r_hear_3 ?_
  refine lv_iload_n hx hb d_r_hear_4 rfl (lv_at hl 2 rfl) ?_
  refine ln_iadd hx hb d_r_hear_5 ?_
  refine lv_istore_n (lv' := [(3, .int (nI ((m * 16) + k))), (0, .ref (ad 0)), (1, .int (nI m)), (2, .int (nI k))]) hx hb d_r_hear_6 rfl hl (by decide) rfl (fun ls hl => ?_)
  refine lv_aload_n hx hb d_r_hear_7 rfl (lv_at hl 1 rfl) ?_
  refine rg_5 S hw d_r_hear_8 ?_
  refine lv_iload_n hx hb d_r_hear_11 rfl (lv_at hl 0 rfl) ?_
  refine rl_5 S hw d_r_hear_12 (by omega) ?_
  refine lv_aload_n hx hb d_r_hear_13 rfl (lv_at hl 1 rfl) ?_
  refine rg_13 S hw d_r_hear_14 ?_
  refine lv_icmp_le (tgt := 50) hx hb d_r_hear_17 (by decide) (fun c_17 => ?_) (fun c_17 => ?_)
  · exact r_vret S hr hlk hw d_r_hear_50 (by unfold hrF; rw [if_neg (show ¬ σ0 0 13 < σ0 5 (m * 16 + k) from fun h => absurd c_17 (Int32.not_le.mpr h))])
  · refine lv_aload_n hx hb d_r_hear_20 rfl (lv_at hl 1 rfl) ?_
    refine lv_aload_n hx hb d_r_hear_21 rfl (lv_at hl 1 rfl) ?_
    refine rg_5 S hw d_r_hear_22 ?_
    refine lv_iload_n hx hb d_r_hear_25 rfl (lv_at hl 0 rfl) ?_
    refine rl_5 S hw d_r_hear_26 (by omega) ?_
    refine rp_13 S hw d_r_hear_27 (fun H locs hw => ?_)
    refine lv_aload_n hx hb d_r_hear_30 rfl (lv_at hl 1 rfl) ?_
    refine lv_aload_n hx hb d_r_hear_31 rfl (lv_at hl 1 rfl) ?_
    refine rg_6 S hw d_r_hear_32 ?_
    refine lv_iload_n hx hb d_r_hear_35 rfl (lv_at hl 0 rfl) ?_
    refine rl_6 S hw d_r_hear_36 (by omega) ?_
    refine rp_14 S hw d_r_hear_37 (fun H locs hw => ?_)
    refine lv_aload_n hx hb d_r_hear_40 rfl (lv_at hl 1 rfl) ?_
    refine lv_aload_n hx hb d_r_hear_41 rfl (lv_at hl 1 rfl) ?_
    refine rg_7 S hw d_r_hear_42 ?_
    refine lv_iload_n hx hb d_r_hear_45 rfl (lv_at hl 0 rfl) ?_
    refine rl_7 S hw d_r_hear_46 (by omega) ?_
    refine rp_15 S hw d_r_hear_47 (hpre) (fun H locs hw => ?_)
    exact r_vret S hr hlk hw d_r_hear_50 (by unfold hrF; rw [if_pos (Int32.not_le.mp c_17)]; rfl)

set_option maxHeartbeats 4000000 in
set_option maxRecDepth 100000 in
theorem c_r_erase (l : Launch) (m : Nat) (k : Nat) (hm : m < 6) (hk : k < 16) : rCv wr tr_ l y_r_erase w_r_erase 0 0 [.int (nI m), .int (nI k)] (fun _ => True) (fun σ σ' => σ' = erF σ m k) := by
  refine rCv.mk (b := b_r_erase) (nL := 4) R_rr (by decide) rfl (Nat.le_of_ble_eq_true rfl) ?_
  intro D ad cs σ0 hpre p e s mi args below meth c A S hr hlk hw ls hl
  have hx := S.1
  have hb := S.2.1
  have hts := S.2.2.2.2
  have hown := S.2.2.2.1
  have hl : lv_has ls 4 [(0, .ref (ad 0)), (1, .int (nI m)), (2, .int (nI k))] := hl
  refine lv_iload_n hx hb d_r_erase_0 rfl (lv_at hl 1 rfl) ?_
  refine lv_bipush (v := nI 16) hx hb d_r_erase_1 (by decide) ?_
  refine ln_imul hx hb d_r_erase_3 ?_
  refine lv_iload_n hx hb d_r_erase_4 rfl (lv_at hl 2 rfl) ?_
  refine ln_iadd hx hb d_r_erase_5 ?_
  refine lv_istore_n (lv' := [(3, .int (nI ((m * 16) + k))), (0, .ref (ad 0)), (1, .int (nI m)), (2, .int (nI k))]) hx hb d_r_erase_6 rfl hl (by decide) rfl (fun ls hl => ?_)
  refine lv_aload_n hx hb d_r_erase_7 rfl (lv_at hl 1 rfl) ?_
  refine rg_5 S hw d_r_erase_8 ?_
  refine lv_iload_n hx hb d_r_erase_11 rfl (lv_at hl 0 rfl) ?_
  refine lv_iconst (v := nI 0) hx hb d_r_erase_12 (by decide) ?_
  refine rs_5 S hw d_r_erase_13 (by omega) (fun H locs hw => ?_)
  refine lv_aload_n hx hb d_r_erase_14 rfl (lv_at hl 1 rfl) ?_
  refine rg_6 S hw d_r_erase_15 ?_
  refine lv_iload_n hx hb d_r_erase_18 rfl (lv_at hl 0 rfl) ?_
  refine lv_iconst (v := nI 0) hx hb d_r_erase_19 (by decide) ?_
  refine rs_6 S hw d_r_erase_20 (by omega) (fun H locs hw => ?_)
  refine lv_aload_n hx hb d_r_erase_21 rfl (lv_at hl 1 rfl) ?_
  refine rg_7 S hw d_r_erase_22 ?_
  refine lv_iload_n hx hb d_r_erase_25 rfl (lv_at hl 0 rfl) ?_
  refine lv_iconst (v := nI 0) hx hb d_r_erase_26 (by decide) ?_
  refine rs_7 S hw d_r_erase_27 (by omega) (isB_n0) (fun H locs hw => ?_)
  exact r_vret S hr hlk hw d_r_erase_28 (rfl)

set_option maxHeartbeats 4000000 in
set_option maxRecDepth 100000 in
theorem c_r_startWork (l : Launch)   : rCv wr tr_ l y_r_startWork w_r_startWork 0 0 [] (fun _ => True) (fun σ σ' => σ' = swF σ) := by
  refine rCv.mk (b := b_r_startWork) (nL := 1) R_rr (by decide) rfl (Nat.le_of_ble_eq_true rfl) ?_
  intro D ad cs σ0 hpre p e s mi args below meth c A S hr hlk hw ls hl
  have hx := S.1
  have hb := S.2.1
  have hts := S.2.2.2.2
  have hown := S.2.2.2.1
  have hl : lv_has ls 1 [(0, .ref (ad 0))] := hl
  refine lv_aload_n hx hb d_r_startWork_0 rfl (lv_at hl 0 rfl) ?_
  refine lv_iconst (v := nI 0) hx hb d_r_startWork_1 (by decide) ?_
  refine rp_12 S hw d_r_startWork_2 (fun H locs hw => ?_)
  refine lv_aload_n hx hb d_r_startWork_5 rfl (lv_at hl 0 rfl) ?_
  refine lv_iconst (v := nI 0) hx hb d_r_startWork_6 (by decide) ?_
  refine rp_13 S hw d_r_startWork_7 (fun H locs hw => ?_)
  refine lv_aload_n hx hb d_r_startWork_10 rfl (lv_at hl 0 rfl) ?_
  refine lv_iconst (v := nI 0) hx hb d_r_startWork_11 (by decide) ?_
  refine rp_14 S hw d_r_startWork_12 (fun H locs hw => ?_)
  refine lv_aload_n hx hb d_r_startWork_15 rfl (lv_at hl 0 rfl) ?_
  refine lv_iconst (v := nI 0) hx hb d_r_startWork_16 (by decide) ?_
  refine rp_15 S hw d_r_startWork_17 (isB_n0) (fun H locs hw => ?_)
  exact r_vret S hr hlk hw d_r_startWork_20 (rfl)

set_option maxHeartbeats 4000000 in
set_option maxRecDepth 100000 in
theorem c_r_hasAnswered (l : Launch) (i : Nat) (a : Nat) (hi : i < 3) (ha : a < 8) : rCi wr tr_ l y_r_hasAnswered w_r_hasAnswered 0 0 [.int (nI i)] (fun σ => σ 0 12 = nI a) (fun σ r σ' => σ' = σ ∧ r = bI (a.testBit i = true)) := by
  refine rCi.mk (b := b_r_hasAnswered) (nL := 2) (rt := .boolean) R_rr (by decide) rfl (Nat.le_of_ble_eq_true rfl) ?_
  intro D ad cs σ0 hpre p e s mi args below meth c A S hr hlk hw ls hl
  have hx := S.1
  have hb := S.2.1
  have hts := S.2.2.2.2
  have hown := S.2.2.2.1
  have hl : lv_has ls 2 [(0, .ref (ad 0)), (1, .int (nI i))] := hl
  refine lv_aload_n hx hb d_r_hasAnswered_0 rfl (lv_at hl 0 rfl) ?_
  refine rg_12 S hw d_r_hasAnswered_1 ?_
  refine ln_top (hpre) ?_
  refine lv_iload_n hx hb d_r_hasAnswered_4 rfl (lv_at hl 1 rfl) ?_
  refine lv_ishr hx hb d_r_hasAnswered_5 ?_
  refine lv_iconst (v := nI 1) hx hb d_r_hasAnswered_6 (by decide) ?_
  refine lv_iand hx hb d_r_hasAnswered_7 ?_
  refine ln_top (bit6 a (by omega) i (by omega)) ?_
  refine lb_if_eq (tgt := 15) hx hb d_r_hasAnswered_8 (by decide) (fun c_8 => ?_) (fun c_8 => ?_)
  · refine lv_iconst (v := nI 0) hx hb d_r_hasAnswered_15 (by decide) ?_
    exact r_zret S hr hlk hw d_r_hasAnswered_16 (isB_n0) (⟨rfl, bI_f c_8⟩)
  · refine lv_iconst (v := nI 1) hx hb d_r_hasAnswered_11 (by decide) ?_
    refine lv_goto (tgt := 16) hx hb d_r_hasAnswered_12 (by decide) ?_
    exact r_zret S hr hlk hw d_r_hasAnswered_16 (isB_n1) (⟨rfl, bI_t c_8⟩)

set_option maxHeartbeats 4000000 in
set_option maxRecDepth 100000 in
theorem c_r_hint (l : Launch) (h : Nat) (m : Nat) (k : Nat) (hh : h < 6) (hm : m < 6) (hk : k < 16) : rCv wr tr_ l y_r_hint w_r_hint 0 0 [.int (nI h), .int (nI m), .int (nI k)] (fun σ => isB (σ 0 15)) (fun σ σ' => σ' = hnF σ h m k) := by
  refine rCv.mk (b := b_r_hint) (nL := 5) R_rr (by decide) rfl (Nat.le_of_ble_eq_true rfl) ?_
  intro D ad cs σ0 hpre p e s mi args below meth c A S hr hlk hw ls hl
  have hx := S.1
  have hb := S.2.1
  have hts := S.2.2.2.2
  have hown := S.2.2.2.1
  have hl : lv_has ls 5 [(0, .ref (ad 0)), (1, .int (nI h)), (2, .int (nI m)), (3, .int (nI k))] := hl
  refine lv_iload_n hx hb d_r_hint_0 rfl (lv_at hl 1 rfl) ?_
  refine lv_bipush (v := nI 6) hx hb d_r_hint_1 (by decide) ?_
  refine ln_imul hx hb d_r_hint_3 ?_
  refine lv_iload_n hx hb d_r_hint_4 rfl (lv_at hl 2 rfl) ?_
  refine ln_iadd hx hb d_r_hint_5 ?_
  refine lv_bipush (v := nI 16) hx hb d_r_hint_6 (by decide) ?_
  refine ln_imul hx hb d_r_hint_8 ?_
  refine lv_iload_n hx hb d_r_hint_9 rfl (lv_at hl 3 rfl) ?_
  refine ln_iadd hx hb d_r_hint_10 ?_
  refine lv_istore (lv' := [(4, .int (nI ((((h * 6) + m) * 16) + k))), (0, .ref (ad 0)), (1, .int (nI h)), (2, .int (nI m)), (3, .int (nI k))]) hx hb d_r_hint_11 hl (by decide) rfl (fun ls hl => ?_)
  refine lv_aload_n hx hb d_r_hint_13 rfl (lv_at hl 1 rfl) ?_
  refine rg_13 S hw d_r_hint_14 ?_
  refine lv_aload_n hx hb d_r_hint_17 rfl (lv_at hl 1 rfl) ?_
  refine rg_8 S hw d_r_hint_18 ?_
  refine lv_iload hx hb d_r_hint_21 (lv_at hl 0 rfl) ?_
  refine rl_8 S hw d_r_hint_23 (by omega) ?_
  refine lv_icmp_le (tgt := 60) hx hb d_r_hint_24 (by decide) (fun c_24 => ?_) (fun c_24 => ?_)
  · exact r_vret S hr hlk hw d_r_hint_60 (by unfold hnF; rw [if_neg (show ¬ σ0 8 ((h * 6 + m) * 16 + k) < σ0 0 13 from fun h => absurd c_24 (Int32.not_le.mpr h))])
  · refine lv_aload_n hx hb d_r_hint_27 rfl (lv_at hl 1 rfl) ?_
    refine rg_8 S hw d_r_hint_28 ?_
    refine lv_iload hx hb d_r_hint_31 (lv_at hl 0 rfl) ?_
    refine lv_aload_n hx hb d_r_hint_33 rfl (lv_at hl 1 rfl) ?_
    refine rg_13 S hw d_r_hint_34 ?_
    refine rs_8 S hw d_r_hint_37 (by omega) (fun H locs hw => ?_)
    refine lv_aload_n hx hb d_r_hint_38 rfl (lv_at hl 1 rfl) ?_
    refine rg_9 S hw d_r_hint_39 ?_
    refine lv_iload hx hb d_r_hint_42 (lv_at hl 0 rfl) ?_
    refine lv_aload_n hx hb d_r_hint_44 rfl (lv_at hl 1 rfl) ?_
    refine rg_14 S hw d_r_hint_45 ?_
    refine rs_9 S hw d_r_hint_48 (by omega) (fun H locs hw => ?_)
    refine lv_aload_n hx hb d_r_hint_49 rfl (lv_at hl 1 rfl) ?_
    refine rg_10 S hw d_r_hint_50 ?_
    refine lv_iload hx hb d_r_hint_53 (lv_at hl 0 rfl) ?_
    refine lv_aload_n hx hb d_r_hint_55 rfl (lv_at hl 1 rfl) ?_
    refine rg_15 S hw d_r_hint_56 ?_
    refine rs_10 S hw d_r_hint_59 (by omega) (hpre) (fun H locs hw => ?_)
    exact r_vret S hr hlk hw d_r_hint_60 (by unfold hnF; rw [if_pos (Int32.not_le.mp c_24)]; rfl)

set_option maxHeartbeats 4000000 in
set_option maxRecDepth 100000 in
theorem c_r_readNumber (l : Launch)   : rCi wr tr_ l y_r_readNumber w_r_readNumber 0 0 [] (fun _ => True) (fun σ r σ' => σ' = σ ∧ r = nmF (σ 0 13) (σ 0 14) (σ 0 15)) := by
  refine rCi.mk (b := b_r_readNumber) (nL := 1) (rt := .int) R_rr (by decide) rfl (Nat.le_of_ble_eq_true rfl) ?_
  intro D ad cs σ0 hpre p e s mi args below meth c A S hr hlk hw ls hl
  have hx := S.1
  have hb := S.2.1
  have hts := S.2.2.2.2
  have hown := S.2.2.2.1
  have hl : lv_has ls 1 [(0, .ref (ad 0))] := hl
  refine lv_aload_n hx hb d_r_readNumber_0 rfl (lv_at hl 0 rfl) ?_
  refine rg_13 S hw d_r_readNumber_1 ?_
  refine lv_if_eq (tgt := 14) hx hb d_r_readNumber_4 (by decide) (fun c_4 => ?_) (fun c_4 => ?_)
  · refine lv_ldc (v := (-200000)) hx hb hown (hts _ q_const_r_129) d_r_readNumber_14 ?_
    refine lv_goto (tgt := 23) hx hb d_r_readNumber_16 (by decide) ?_
    exact r_iret S hr hlk hw d_r_readNumber_23 (⟨rfl, (if_pos (by first | exact Or.inl c_4 | exact Or.inr c_11)).symm⟩)
  · refine lv_aload_n hx hb d_r_readNumber_7 rfl (lv_at hl 0 rfl) ?_
    refine rg_15 S hw d_r_readNumber_8 ?_
    refine lv_if_eq (tgt := 19) hx hb d_r_readNumber_11 (by decide) (fun c_11 => ?_) (fun c_11 => ?_)
    · refine lv_aload_n hx hb d_r_readNumber_19 rfl (lv_at hl 0 rfl) ?_
      refine rg_14 S hw d_r_readNumber_20 ?_
      exact r_iret S hr hlk hw d_r_readNumber_23 (⟨rfl, (if_neg (fun h => by rcases h with h | h; exact c_4 h; exact h c_11)).symm⟩)
    · refine lv_ldc (v := (-200000)) hx hb hown (hts _ q_const_r_129) d_r_readNumber_14 ?_
      refine lv_goto (tgt := 23) hx hb d_r_readNumber_16 (by decide) ?_
      exact r_iret S hr hlk hw d_r_readNumber_23 (⟨rfl, (if_pos (by first | exact Or.inl c_4 | exact Or.inr c_11)).symm⟩)

theorem ct_dec {σ : St} {r v : Int32} (h : ¬ (up2 σ 0 19 v) 0 20 = 0) : ∀ ll, ll ≤ 30 → σ 0 20 = nI ll → ∃ l2, l2 ≤ ll ∧ (up2 (up2 σ 0 19 v) 0 20 ((up2 σ 0 19 v) 0 20 - nI 1)) 0 20 = nI l2 ∧ (r = 0 → l2 < ll) := by
  intro ll h1 h2
  have h3 : ¬ σ 0 20 = 0 := h
  have h4 : 0 < ll := Nat.pos_of_ne_zero (fun z => h3 (by rw [h2, z]; rfl))
  refine ⟨ll - 1, by omega, ?_, fun _ => by omega⟩
  rw [up2_s]
  show σ 0 20 - nI 1 = _
  rw [h2, pk_sub (by omega)]

set_option maxHeartbeats 4000000 in
set_option maxRecDepth 100000 in
theorem c_r_comesThrough (l : Launch) (f : Int32) (t : Int32)  : rCi wr tr_ l y_r_comesThrough w_r_comesThrough 0 0 [.int (f), .int (t)] (fun _ => True) (ctP) := by
  refine rCi.mk (b := b_r_comesThrough) (nL := 3) (rt := .boolean) R_rr (by decide) rfl (Nat.le_of_ble_eq_true rfl) ?_
  intro D ad cs σ0 hpre p e s mi args below meth c A S hr hlk hw ls hl
  have hx := S.1
  have hb := S.2.1
  have hts := S.2.2.2.2
  have hown := S.2.2.2.1
  have hl : lv_has ls 3 [(0, .ref (ad 0)), (1, .int (f)), (2, .int (t))] := hl
  refine lv_iload_n hx hb d_r_comesThrough_0 rfl (lv_at hl 1 rfl) ?_
  refine lv_iload_n hx hb d_r_comesThrough_1 rfl (lv_at hl 2 rfl) ?_
  refine lv_icmp_ne (tgt := 7) hx hb d_r_comesThrough_2 (by decide) (fun c_2 => ?_) (fun c_2 => ?_)
  · refine lv_aload_n hx hb d_r_comesThrough_7 rfl (lv_at hl 0 rfl) ?_
    refine lv_dup hx hb d_r_comesThrough_8 rfl ?_
    refine rg_19 S hw d_r_comesThrough_9 ?_
    refine lv_iconst (v := nI 1) hx hb d_r_comesThrough_12 (by decide) ?_
    refine lv_iadd hx hb d_r_comesThrough_13 ?_
    refine rp_19 S hw d_r_comesThrough_14 (fun H locs hw => ?_)
    refine lv_aload_n hx hb d_r_comesThrough_17 rfl (lv_at hl 0 rfl) ?_
    refine rg_20 S hw d_r_comesThrough_18 ?_
    refine lv_if_ne (tgt := 26) hx hb d_r_comesThrough_21 (by decide) (fun c_21 => ?_) (fun c_21 => ?_)
    · refine lv_aload_n hx hb d_r_comesThrough_26 rfl (lv_at hl 0 rfl) ?_
      refine lv_dup hx hb d_r_comesThrough_27 rfl ?_
      refine rg_20 S hw d_r_comesThrough_28 ?_
      refine lv_iconst (v := nI 1) hx hb d_r_comesThrough_31 (by decide) ?_
      refine lv_isub hx hb d_r_comesThrough_32 ?_
      refine rp_20 S hw d_r_comesThrough_33 (fun H locs hw => ?_)
      refine lv_aload_n hx hb d_r_comesThrough_36 rfl (lv_at hl 0 rfl) ?_
      refine rg_19 S hw d_r_comesThrough_37 ?_
      refine lv_iconst (v := nI 2) hx hb d_r_comesThrough_40 (by decide) ?_
      refine lv_irem hx hb d_r_comesThrough_41 (by decide) ?_
      refine lv_if_ne (tgt := 49) hx hb d_r_comesThrough_42 (by decide) (fun c_42 => ?_) (fun c_42 => ?_)
      · refine lv_iconst (v := nI 0) hx hb d_r_comesThrough_49 (by decide) ?_
        exact r_zret S hr hlk hw d_r_comesThrough_50 (isB_n0) (⟨isB_n0, fun a b h => by rw [up2_ap, if_neg (fun q => h ⟨q.1, Or.inr q.2⟩), up2_ap, if_neg (fun q => h ⟨q.1, Or.inl q.2⟩)], ct_dec c_21⟩)
      · refine lv_iconst (v := nI 1) hx hb d_r_comesThrough_45 (by decide) ?_
        refine lv_goto (tgt := 50) hx hb d_r_comesThrough_46 (by decide) ?_
        exact r_zret S hr hlk hw d_r_comesThrough_50 (isB_n1) (⟨isB_n1, fun a b h => by rw [up2_ap, if_neg (fun q => h ⟨q.1, Or.inr q.2⟩), up2_ap, if_neg (fun q => h ⟨q.1, Or.inl q.2⟩)], ct_dec c_21⟩)
    · refine lv_iconst (v := nI 1) hx hb d_r_comesThrough_24 (by decide) ?_
      exact r_zret S hr hlk hw d_r_comesThrough_25 (isB_n1) (⟨isB_n1, fun a b h => by rw [up2_ap, if_neg (fun q => h ⟨q.1, Or.inl q.2⟩)], fun ll h1 h2 => ⟨ll, Nat.le_refl _, h2, fun h => absurd h (by decide)⟩⟩)
  · refine lv_iconst (v := nI 1) hx hb d_r_comesThrough_5 (by decide) ?_
    exact r_zret S hr hlk hw d_r_comesThrough_6 (isB_n1) (⟨isB_n1, fun _ _ _ => rfl, fun ll h1 h2 => ⟨ll, Nat.le_refl _, h2, fun h => absurd h (by decide)⟩⟩)
end
section
/-! the ring, without the program: r.1 places, place j at the point (r.2 j).1, of the machine (r.2 j).2 -/
abbrev Rg : Type := Nat × (Nat → Int32 × Nat)
def posR (f : Nat → Int32 × Nat) (pt : Int32) : Nat → Nat
  | 0 => 0
  | n + 1 => if pt < (f n).1 then posR f pt n else n + 1
def insR (r : Rg) (pt : Int32) (m : Nat) : Rg := (r.1 + 1, fun j => if j < posR r.2 pt r.1 then r.2 j else if j = posR r.2 pt r.1 then (pt, m) else r.2 (j - 1))
def layR (M : Nat) : Nat → Rg
  | 0 => (0, fun _ => (0, 0))
  | t + 1 => if M.testBit (t / 4) = true then insR (layR M t) (mx (nI (t + 100))) (t / 4) else layR M t
def Lay (σ : St) (r : Rg) : Prop := σ 0 2 = nI r.1 ∧ ∀ j, j < r.1 → σ 3 j = (r.2 j).1 ∧ σ 4 j = nI (r.2 j).2
theorem posR_le (f : Nat → Int32 × Nat) (pt : Int32) : ∀ n, posR f pt n ≤ n
  | 0 => Nat.le_refl _
  | n + 1 => by unfold posR; split; exact Nat.le_succ_of_le (posR_le f pt n); exact Nat.le_refl _
theorem posR_step {f : Nat → Int32 × Nat} {pt : Int32} {a : Nat} (h : 0 < a) (hp : pt < (f (a - 1)).1) : posR f pt a = posR f pt (a - 1) := by
  obtain ⟨b, rfl⟩ : ∃ b, a = b + 1 := ⟨a - 1, by omega⟩
  rw [Nat.add_sub_cancel] at hp ⊢
  show (if pt < (f b).1 then posR f pt b else b + 1) = _
  rw [if_pos hp]
theorem posR_stop {f : Nat → Int32 × Nat} {pt : Int32} {a : Nat} (h : 0 < a) (hp : ¬ pt < (f (a - 1)).1) : posR f pt a = a := by
  obtain ⟨b, rfl⟩ : ∃ b, a = b + 1 := ⟨a - 1, by omega⟩
  rw [Nat.add_sub_cancel] at hp
  show (if pt < (f b).1 then posR f pt b else b + 1) = _
  rw [if_neg hp]
theorem ins_lay {σ : St} {r : Rg} {pt : Int32} {m a : Nat} (he : posR r.2 pt r.1 = a) (hlo : ∀ j, j < a → σ 3 j = (r.2 j).1 ∧ σ 4 j = nI (r.2 j).2) (hhi : ∀ j, a < j → j ≤ r.1 → σ 3 j = (r.2 (j - 1)).1 ∧ σ 4 j = nI (r.2 (j - 1)).2) :
    Lay (up2 (up2 (up2 σ 3 a pt) 4 a (nI m)) 0 2 (nI (r.1 + 1))) (insR r pt m) := by
  refine ⟨up2_s _ _ _ _, fun j hj => ?_⟩
  have hj : j < r.1 + 1 := hj
  show up2 σ 3 a pt 3 j = (if j < posR r.2 pt r.1 then r.2 j else if j = posR r.2 pt r.1 then (pt, m) else r.2 (j - 1)).1 ∧ up2 (up2 σ 3 a pt) 4 a (nI m) 4 j = nI (if j < posR r.2 pt r.1 then r.2 j else if j = posR r.2 pt r.1 then (pt, m) else r.2 (j - 1)).2
  rw [he]
  rcases Nat.lt_trichotomy j a with h | h | h
  · rw [if_pos h, up2_n (by omega), up2_n (by omega), up2_g (by decide)]
    exact hlo j h
  · subst h
    rw [if_neg (Nat.lt_irrefl _), if_pos rfl, up2_s, up2_s]
    exact ⟨rfl, rfl⟩
  · rw [if_neg (by omega), if_neg (by omega), up2_n (by omega), up2_n (by omega), up2_g (by decide)]
    exact hhi j h (by omega)
theorem ins_shift {σ : St} {r : Rg} {a : Nat} (h0 : 0 < a) (ha : a ≤ r.1) (hlo : ∀ j, j < a → σ 3 j = (r.2 j).1 ∧ σ 4 j = nI (r.2 j).2) (hhi : ∀ j, a < j → j ≤ r.1 → σ 3 j = (r.2 (j - 1)).1 ∧ σ 4 j = nI (r.2 (j - 1)).2) :
    (∀ j, j < a - 1 → (up2 (up2 σ 3 a (σ 3 (a - 1))) 4 a (σ 4 (a - 1))) 3 j = (r.2 j).1 ∧ (up2 (up2 σ 3 a (σ 3 (a - 1))) 4 a (σ 4 (a - 1))) 4 j = nI (r.2 j).2) ∧
    ∀ j, a - 1 < j → j ≤ r.1 → (up2 (up2 σ 3 a (σ 3 (a - 1))) 4 a (σ 4 (a - 1))) 3 j = (r.2 (j - 1)).1 ∧ (up2 (up2 σ 3 a (σ 3 (a - 1))) 4 a (σ 4 (a - 1))) 4 j = nI (r.2 (j - 1)).2 := by
  refine ⟨fun j hj => ?_, fun j h1 h2 => ?_⟩
  · rw [up2_n (by omega), up2_n (by omega), up2_n (by omega), up2_n (by omega)]
    exact hlo j (by omega)
  · by_cases h : j = a
    · subst h
      rw [up2_s, up2_g (by decide), up2_s]
      exact hlo (j - 1) (by omega)
    · rw [up2_n h, up2_n h, up2_n h, up2_n h]
      exact hhi j (by omega) h2
/-- who has places -/
theorem ins_all {P : Nat → Prop} {r : Rg} {pt : Int32} {m : Nat} (h : ∀ j, j < r.1 → P (r.2 j).2) (hm : P m) : ∀ j, j < (insR r pt m).1 → P ((insR r pt m).2 j).2 := by
  intro j hj
  have hj : j < r.1 + 1 := hj
  have hp := posR_le r.2 pt r.1
  show P (if j < posR r.2 pt r.1 then r.2 j else if j = posR r.2 pt r.1 then (pt, m) else r.2 (j - 1)).2
  by_cases h1 : j < posR r.2 pt r.1
  · rw [if_pos h1]; exact h j (by omega)
  · rw [if_neg h1]
    by_cases h2 : j = posR r.2 pt r.1
    · rw [if_pos h2]; exact hm
    · rw [if_neg h2]; exact h (j - 1) (by omega)
theorem ins_new {r : Rg} {pt : Int32} {m : Nat} : ∃ j, j < (insR r pt m).1 ∧ ((insR r pt m).2 j).2 = m := by
  have hp := posR_le r.2 pt r.1
  refine ⟨posR r.2 pt r.1, Nat.lt_succ_of_le hp, ?_⟩
  show (if posR r.2 pt r.1 < posR r.2 pt r.1 then _ else if posR r.2 pt r.1 = posR r.2 pt r.1 then (pt, m) else _).2 = m
  rw [if_neg (Nat.lt_irrefl _), if_pos rfl]
theorem ins_old {r : Rg} {pt : Int32} {m x : Nat} (h : ∃ j, j < r.1 ∧ (r.2 j).2 = x) : ∃ j, j < (insR r pt m).1 ∧ ((insR r pt m).2 j).2 = x := by
  obtain ⟨j, hj, e⟩ := h
  by_cases h1 : j < posR r.2 pt r.1
  · refine ⟨j, Nat.lt_succ_of_lt hj, ?_⟩
    show (if j < posR r.2 pt r.1 then r.2 j else _).2 = x
    rw [if_pos h1]; exact e
  · refine ⟨j + 1, Nat.succ_lt_succ hj, ?_⟩
    show (if j + 1 < posR r.2 pt r.1 then r.2 (j + 1) else if j + 1 = posR r.2 pt r.1 then (pt, m) else r.2 (j + 1 - 1)).2 = x
    rw [if_neg (by omega), if_neg (by omega), Nat.add_sub_cancel]; exact e
theorem layR_len (M : Nat) : ∀ t, (layR M t).1 ≤ t
  | 0 => Nat.le_refl _
  | t + 1 => by
    unfold layR
    split
    · exact Nat.succ_le_succ (layR_len M t)
    · exact Nat.le_succ_of_le (layR_len M t)
theorem layR_own (M : Nat) : ∀ t, t ≤ 24 → ∀ j, j < (layR M t).1 → ((layR M t).2 j).2 < 6 ∧ M.testBit ((layR M t).2 j).2 = true
  | 0, _ => fun j hj => absurd hj (Nat.not_lt_zero j)
  | t + 1, ht => by
    unfold layR
    split
    · next h => exact ins_all (P := fun x => x < 6 ∧ M.testBit x = true) (layR_own M t (by omega)) ⟨by omega, h⟩
    · exact layR_own M t (by omega)
theorem layR_has (M : Nat) : ∀ t m, 4 * m < t → M.testBit m = true → ∃ j, j < (layR M t).1 ∧ ((layR M t).2 j).2 = m
  | 0, m, h, _ => absurd h (Nat.not_lt_zero _)
  | t + 1, m, h, hb => by
    unfold layR
    split
    · by_cases h4 : 4 * m < t
      · exact ins_old (layR_has M t m h4 hb)
      · rw [show t / 4 = m by omega]; exact ins_new
    · next hn =>
      by_cases h4 : 4 * m < t
      · exact layR_has M t m h4 hb
      · exact absurd (by rw [show t / 4 = m by omega]; exact hb) hn
theorem layR_T {M m i : Nat} (hi : i < 4) (h : M.testBit m = true) : layR M (4 * m + (i + 1)) = insR (layR M (4 * m + i)) (mx (nI (m * 4 + i + 100))) m := by
  show (if M.testBit ((4 * m + i) / 4) = true then insR (layR M (4 * m + i)) (mx (nI (4 * m + i + 100))) ((4 * m + i) / 4) else layR M (4 * m + i)) = _
  rw [show (4 * m + i) / 4 = m by omega, if_pos h, Nat.mul_comm 4 m]
theorem layR_F {M m i : Nat} (hi : i < 4) (h : ¬ M.testBit m = true) : layR M (4 * m + (i + 1)) = layR M (4 * m + i) := by
  show (if M.testBit ((4 * m + i) / 4) = true then insR (layR M (4 * m + i)) (mx (nI (4 * m + i + 100))) ((4 * m + i) / 4) else layR M (4 * m + i)) = _
  rw [show (4 * m + i) / 4 = m by omega, if_neg h]
/-! the search for a key's place, and its three machines -/
def bsR (f : Nat → Int32 × Nat) (pt : Int32) : Nat → Nat → Nat → Nat
  | 0, lo, _ => lo
  | n + 1, lo, hi => if lo < hi then (if (f ((lo + hi) / 2)).1 < pt then bsR f pt n ((lo + hi) / 2 + 1) hi else bsR f pt n lo ((lo + hi) / 2)) else lo
theorem bsR_T {f : Nat → Int32 × Nat} {pt : Int32} {rd lo hi : Nat} (h6 : rd < 6) (h : lo < hi) (hp : (f ((lo + hi) / 2)).1 < pt) : bsR f pt (6 - rd) lo hi = bsR f pt (6 - (rd + 1)) ((lo + hi) / 2 + 1) hi := by
  rw [show 6 - rd = (6 - (rd + 1)) + 1 by omega]
  show (if lo < hi then _ else lo) = _
  rw [if_pos h, if_pos hp]
theorem bsR_F {f : Nat → Int32 × Nat} {pt : Int32} {rd lo hi : Nat} (h6 : rd < 6) (h : lo < hi) (hp : ¬ (f ((lo + hi) / 2)).1 < pt) : bsR f pt (6 - rd) lo hi = bsR f pt (6 - (rd + 1)) lo ((lo + hi) / 2) := by
  rw [show 6 - rd = (6 - (rd + 1)) + 1 by omega]
  show (if lo < hi then _ else lo) = _
  rw [if_pos h, if_neg hp]
theorem bsR_E {f : Nat → Int32 × Nat} {pt : Int32} {n lo hi : Nat} (h : ¬ lo < hi) : bsR f pt n lo hi = lo := by
  cases n with
  | zero => rfl
  | succ n => show (if lo < hi then _ else lo) = _; rw [if_neg h]
theorem bsR_le {f : Nat → Int32 × Nat} {pt : Int32} : ∀ n lo hi, lo ≤ hi → bsR f pt n lo hi ≤ hi
  | 0, lo, hi, h => h
  | n + 1, lo, hi, h => by
    unfold bsR
    split
    · split
      · exact bsR_le n _ _ (by omega)
      · exact Nat.le_trans (bsR_le n _ _ (by omega)) (by omega)
    · exact h
def pickR (r : Rg) (lo : Nat) : Nat → Nat → List Nat → List Nat
  | 0, _, acc => acc
  | q + 1, i, acc => if 3 ≤ acc.length then acc else if (r.2 ((lo + i) % r.1)).2 ∈ acc then pickR r lo q (i + 1) acc else pickR r lo q (i + 1) (acc ++ [(r.2 ((lo + i) % r.1)).2])
theorem pickR_E {r : Rg} {lo q i : Nat} {acc : List Nat} (h : q = 0 ∨ 3 ≤ acc.length) : pickR r lo q i acc = acc := by
  cases q with
  | zero => rfl
  | succ q =>
    rcases h with h | h
    · omega
    · show (if 3 ≤ acc.length then acc else _) = _; rw [if_pos h]
theorem pickR_Y {r : Rg} {lo i n : Nat} {acc : List Nat} (hn : i < n) (h : acc.length < 3) (hm : (r.2 ((lo + i) % r.1)).2 ∈ acc) : pickR r lo (n - i) i acc = pickR r lo (n - (i + 1)) (i + 1) acc := by
  rw [show n - i = (n - (i + 1)) + 1 by omega]
  show (if 3 ≤ acc.length then acc else if (r.2 ((lo + i) % r.1)).2 ∈ acc then _ else _) = _
  rw [if_neg (by omega), if_pos hm]
theorem pickR_N {r : Rg} {lo i n : Nat} {acc : List Nat} (hn : i < n) (h : acc.length < 3) (hm : ¬ (r.2 ((lo + i) % r.1)).2 ∈ acc) : pickR r lo (n - i) i acc = pickR r lo (n - (i + 1)) (i + 1) (acc ++ [(r.2 ((lo + i) % r.1)).2]) := by
  rw [show n - i = (n - (i + 1)) + 1 by omega]
  show (if 3 ≤ acc.length then acc else if (r.2 ((lo + i) % r.1)).2 ∈ acc then _ else _) = _
  rw [if_neg (by omega), if_neg hm]
theorem pickR_inv {r : Rg} {lo : Nat} {P : Nat → Prop} (hr : 0 < r.1) (hP : ∀ j, j < r.1 → P (r.2 j).2) : ∀ q i acc, acc.Nodup → acc.length ≤ 3 → (∀ x ∈ acc, P x) → (∀ j, j < i → (r.2 ((lo + j) % r.1)).2 ∈ acc) →
    (pickR r lo q i acc).Nodup ∧ (pickR r lo q i acc).length ≤ 3 ∧ (∀ x ∈ pickR r lo q i acc, P x) ∧ ((pickR r lo q i acc).length = 3 ∨ ∀ j, j < i + q → (r.2 ((lo + j) % r.1)).2 ∈ pickR r lo q i acc)
  | 0, i, acc, h1, h2, h3, h4 => ⟨h1, h2, h3, Or.inr h4⟩
  | q + 1, i, acc, h1, h2, h3, h4 => by
    unfold pickR
    split
    · next h => exact ⟨h1, h2, h3, Or.inl (by omega)⟩
    · next h =>
      split
      · next hm =>
        obtain ⟨a, b, c, d⟩ := pickR_inv hr hP q (i + 1) acc h1 h2 h3 (fun j hj => by
          by_cases e : j = i
          · rw [e]; exact hm
          · exact h4 j (by omega))
        exact ⟨a, b, c, d.imp id (fun z j hj => z j (by omega))⟩
      · next hm =>
        obtain ⟨a, b, c, d⟩ := pickR_inv hr hP q (i + 1) (acc ++ [(r.2 ((lo + i) % r.1)).2]) (List.nodup_append.mpr ⟨h1, by simp, fun x hx y hy => by rw [List.mem_singleton.mp hy]; exact fun e => hm (e ▸ hx)⟩) (by simp; omega) (fun x hx => by
          rcases List.mem_append.mp hx with h | h
          · exact h3 x h
          · rw [List.mem_singleton.mp h]; exact hP _ (Nat.mod_lt _ hr)) (fun j hj => by
          by_cases e : j = i
          · rw [e]; exact List.mem_append_right _ (List.mem_singleton.mpr rfl)
          · exact List.mem_append_left _ (h4 j (by omega)))
        exact ⟨a, b, c, d.imp id (fun z j hj => z j (by omega))⟩
theorem rot {n lo p : Nat} (hl : lo ≤ n) (hp : p < n) : ∃ j, j < n ∧ (lo + j) % n = p := by
  by_cases h : lo ≤ p
  · exact ⟨p - lo, by omega, by rw [show lo + (p - lo) = p by omega]; exact Nat.mod_eq_of_lt hp⟩
  · exact ⟨p + n - lo, by omega, by rw [show lo + (p + n - lo) = p + n by omega, Nat.add_mod_right]; exact Nat.mod_eq_of_lt hp⟩
theorem len3 {R : List Nat} {a b c : Nat} (ha : a ∈ R) (hb : b ∈ R) (hc : c ∈ R) (h1 : a < b) (h2 : b < c) : 3 ≤ R.length := by
  match R, ha, hb, hc with
  | [x], ha, hb, _ => simp at ha hb; omega
  | [x, y], ha, hb, hc => simp at ha hb hc; omega
  | x :: y :: z :: t, _, _, _ => simp
theorem three : ∀ M, M < 64 → 3 ≤ cb M 6 → ∃ a, a < 6 ∧ ∃ b, b < 6 ∧ ∃ c, c < 6 ∧ a < b ∧ b < c ∧ M.testBit a = true ∧ M.testBit b = true ∧ M.testBit c = true := by decide +kernel
/-- the sets of members that there are -/
def okM (M : Nat) : Prop := M < 64 ∧ 3 ≤ cb M 6
def lowR (M k : Nat) : Nat := bsR (layR M 24).2 (mx (nI k)) 6 0 (layR M 24).1
def kl (M k : Nat) : List Nat := pickR (layR M 24) (lowR M k) (layR M 24).1 0 []
def kp (M k i : Nat) : Nat := (kl M k).getD i 0
theorem kl_ok {M : Nat} (hM : okM M) (k : Nat) : (kl M k).Nodup ∧ (kl M k).length = 3 ∧ ∀ x ∈ kl M k, x < 6 ∧ M.testBit x = true := by
  obtain ⟨a, ha, b, hb, c, hc, h1, h2, ba, bb, bc⟩ := three M hM.1 hM.2
  obtain ⟨pa, ja, ea⟩ := layR_has M 24 a (by omega) ba
  obtain ⟨pb, jb, eb⟩ := layR_has M 24 b (by omega) bb
  obtain ⟨pc, jc, ec⟩ := layR_has M 24 c (by omega) bc
  have hlow : lowR M k ≤ (layR M 24).1 := bsR_le _ _ _ (Nat.zero_le _)
  have key := pickR_inv (r := layR M 24) (lo := lowR M k) (P := fun x => x < 6 ∧ M.testBit x = true) (by omega) (layR_own M 24 (Nat.le_refl _)) (layR M 24).1 0 [] List.nodup_nil (by simp) (fun x h => by simp at h) (fun j h => by omega)
  obtain ⟨q1, q2, q3, q4⟩ := key
  refine ⟨q1, ?_, q3⟩
  rcases q4 with q4 | q4
  · exact q4
  · have get : ∀ x p, p < (layR M 24).1 → ((layR M 24).2 p).2 = x → x ∈ kl M k := by
      intro x p hp e
      obtain ⟨j, hj, ej⟩ := rot hlow hp
      have h := q4 j (by omega)
      rw [ej, e] at h
      exact h
    have := len3 (get a pa ja ea) (get b pb jb eb) (get c pc jc ec) h1 h2
    have e : (kl M k).length ≤ 3 := q2
    omega
theorem kp_lt {M : Nat} (hM : okM M) (k : Nat) {i : Nat} (hi : i < 3) : kp M k i < 6 ∧ M.testBit (kp M k i) = true := by
  obtain ⟨-, h2, h3⟩ := kl_ok hM k
  refine h3 _ ?_
  unfold kp
  rw [List.getD_eq_getElem?_getD, List.getElem?_eq_getElem (by omega)]
  exact List.getElem_mem _
theorem kp_ne {M : Nat} (hM : okM M) (k : Nat) {i j : Nat} (hi : i < 3) (hj : j < 3) (h : i ≠ j) : kp M k i ≠ kp M k j := by
  obtain ⟨h1, h2, -⟩ := kl_ok hM k
  unfold kp
  rw [List.getD_eq_getElem?_getD, List.getElem?_eq_getElem (by omega), List.getD_eq_getElem?_getD, List.getElem?_eq_getElem (by omega)]
  exact fun e => h ((List.getElem_inj h1).mp e)
theorem or6 : ∀ s, s < 64 → ∀ j, j < 6 → nI s ||| (nI 1 <<< (nI j &&& 31)) = nI (s ||| 2 ^ j) ∧ s ||| 2 ^ j < 64 ∧ ∀ i, i < 6 → (s ||| 2 ^ j).testBit i = (s.testBit i || decide (i = j)) := by decide +kernel
end
section
set_option maxHeartbeats 4000000 in
set_option maxRecDepth 100000 in
theorem c_r_enterRing (l : Launch) (r : Rg) (pt : Int32) (m : Nat) (h24 : r.1 < 24) (ho : ∀ j, j < r.1 → (r.2 j).2 < 6) (hm : m < 6) : rCv wr tr_ l y_r_enterRing w_r_enterRing 0 0 [.int (pt), .int (nI m)] (fun σ => Lay σ r) (fun σ σ' => Lay σ' (insR r pt m) ∧ ∀ x y, x ≠ 3 → x ≠ 4 → ¬ (x = 0 ∧ y = 2) → σ' x y = σ x y) := by
  refine rCv.mk (b := b_r_enterRing) (nL := 4) R_rr (by decide) rfl (Nat.le_of_ble_eq_true rfl) ?_
  intro D ad cs σ0 hpre p e s mi args below meth c A S hr hlk hw ls hl
  have hx := S.1
  have hb := S.2.1
  have hts := S.2.2.2.2
  have hown := S.2.2.2.1
  have hl : lv_has ls 4 [(0, .ref (ad 0)), (1, .int (pt)), (2, .int (nI m))] := hl
  refine lv_aload_n hx hb d_r_enterRing_0 rfl (lv_at hl 0 rfl) ?_
  refine rg_2 S hw d_r_enterRing_1 ?_
  refine ln_top (hpre.1) ?_
  refine lv_istore_n (lv' := [(3, .int (nI r.1)), (0, .ref (ad 0)), (1, .int (pt)), (2, .int (nI m))]) hx hb d_r_enterRing_4 rfl hl (by decide) rfl (fun ls hl => ?_)
  have L5 : ∀ (n : Nat) (a : Nat) (σ : St) (H : Heap) (locs : List Loc) (ls : Array Slot), a ≤ r.1 → posR r.2 pt a = posR r.2 pt r.1 → (∀ j, j < a → σ 3 j = (r.2 j).1 ∧ σ 4 j = nI (r.2 j).2) → (∀ j, a < j → j ≤ r.1 → σ 3 j = (r.2 (j - 1)).1 ∧ σ 4 j = nI (r.2 (j - 1)).2) → (∀ x y, x ≠ 3 → x ≠ 4 → σ x y = σ0 x y) → a < n → rW wr tr_ D ad cs A s σ H locs → lv_has ls 4 [(0, .ref (ad 0)), (1, .int (pt)), (2, .int (nI m)), (3, .int (nI a))] → W p l e { frames := 0, cells := 0, slots := 0, locals := 0 } s mi args below meth c H locs 0 0 (MQ below (va_Qv ((fun σ σ' => Lay σ' (insR r pt m) ∧ ∀ x y, x ≠ 3 → x ≠ 4 → ¬ (x = 0 ∧ y = 2) → σ' x y = σ x y) σ0) (rB wr tr_ D ad cs A) A) args s 0 0 A) (F0 mi 5 ls []) := by
    intro n
    induction n with
    | zero =>
      intro a σ H locs ls ha hp hlo hhi hfr hn hw hl
      omega
    | succ n ih5 =>
      intro a σ H locs ls ha hp hlo hhi hfr hn hw hl
      refine lv_iload_n hx hb d_r_enterRing_5 rfl (lv_at hl 3 rfl) ?_
      refine ln_if_le (tgt := 55) hx hb d_r_enterRing_6 (by decide) (by omega) (fun c_6 => ?_) (fun c_6 => ?_)
      · have he : posR r.2 pt r.1 = a := by first | exact hp.symm.trans (posR_stop c_6 (by rw [← (hlo (a - 1) (by omega)).1]; exact fun h => absurd c_18 (Int32.not_le.mpr h))) | (rw [← hp, c_6]; rfl)
        refine lv_aload_n hx hb d_r_enterRing_55 rfl (lv_at hl 0 rfl) ?_
        refine rg_3 S hw d_r_enterRing_56 ?_
        refine lv_iload_n hx hb d_r_enterRing_59 rfl (lv_at hl 3 rfl) ?_
        refine lv_iload_n hx hb d_r_enterRing_60 rfl (lv_at hl 1 rfl) ?_
        refine rs_3 S hw d_r_enterRing_61 (by omega) (fun H locs hw => ?_)
        refine lv_aload_n hx hb d_r_enterRing_62 rfl (lv_at hl 0 rfl) ?_
        refine rg_4 S hw d_r_enterRing_63 ?_
        refine lv_iload_n hx hb d_r_enterRing_66 rfl (lv_at hl 3 rfl) ?_
        refine lv_iload_n hx hb d_r_enterRing_67 rfl (lv_at hl 2 rfl) ?_
        refine lv_i2b (v := nI m) hx hb d_r_enterRing_68 (i2b_small (by omega)) ?_
        refine rs_4 S hw d_r_enterRing_69 (by omega) (nar_small (by omega)) (fun H locs hw => ?_)
        refine lv_aload_n hx hb d_r_enterRing_70 rfl (lv_at hl 0 rfl) ?_
        refine lv_dup hx hb d_r_enterRing_71 rfl ?_
        refine rg_2 S hw d_r_enterRing_72 ?_
        refine ln_top (show σ 0 2 = nI r.1 from (hfr 0 2 (by decide) (by decide)).trans hpre.1) ?_
        refine lv_iconst (v := nI 1) hx hb d_r_enterRing_75 (by decide) ?_
        refine ln_iadd hx hb d_r_enterRing_76 ?_
        refine rp_2 S hw d_r_enterRing_77 (fun H locs hw => ?_)
        exact r_vret S hr hlk hw d_r_enterRing_80 (⟨ins_lay he hlo hhi, fun x y h1 h2 h3 => by rw [up2_ap, if_neg h3, up2_g h2, up2_g h1]; exact hfr x y h1 h2⟩)
      · refine lv_aload_n hx hb d_r_enterRing_9 rfl (lv_at hl 0 rfl) ?_
        refine rg_3 S hw d_r_enterRing_10 ?_
        refine lv_iload_n hx hb d_r_enterRing_13 rfl (lv_at hl 3 rfl) ?_
        refine lv_iconst (v := nI 1) hx hb d_r_enterRing_14 (by decide) ?_
        refine ln_isub hx hb d_r_enterRing_15 (by omega) ?_
        refine rl_3 S hw d_r_enterRing_16 (by omega) ?_
        refine lv_iload_n hx hb d_r_enterRing_17 rfl (lv_at hl 1 rfl) ?_
        refine lv_icmp_le (tgt := 55) hx hb d_r_enterRing_18 (by decide) (fun c_18 => ?_) (fun c_18 => ?_)
        · have he : posR r.2 pt r.1 = a := by first | exact hp.symm.trans (posR_stop c_6 (by rw [← (hlo (a - 1) (by omega)).1]; exact fun h => absurd c_18 (Int32.not_le.mpr h))) | (rw [← hp, c_6]; rfl)
          refine lv_aload_n hx hb d_r_enterRing_55 rfl (lv_at hl 0 rfl) ?_
          refine rg_3 S hw d_r_enterRing_56 ?_
          refine lv_iload_n hx hb d_r_enterRing_59 rfl (lv_at hl 3 rfl) ?_
          refine lv_iload_n hx hb d_r_enterRing_60 rfl (lv_at hl 1 rfl) ?_
          refine rs_3 S hw d_r_enterRing_61 (by omega) (fun H locs hw => ?_)
          refine lv_aload_n hx hb d_r_enterRing_62 rfl (lv_at hl 0 rfl) ?_
          refine rg_4 S hw d_r_enterRing_63 ?_
          refine lv_iload_n hx hb d_r_enterRing_66 rfl (lv_at hl 3 rfl) ?_
          refine lv_iload_n hx hb d_r_enterRing_67 rfl (lv_at hl 2 rfl) ?_
          refine lv_i2b (v := nI m) hx hb d_r_enterRing_68 (i2b_small (by omega)) ?_
          refine rs_4 S hw d_r_enterRing_69 (by omega) (nar_small (by omega)) (fun H locs hw => ?_)
          refine lv_aload_n hx hb d_r_enterRing_70 rfl (lv_at hl 0 rfl) ?_
          refine lv_dup hx hb d_r_enterRing_71 rfl ?_
          refine rg_2 S hw d_r_enterRing_72 ?_
          refine ln_top (show σ 0 2 = nI r.1 from (hfr 0 2 (by decide) (by decide)).trans hpre.1) ?_
          refine lv_iconst (v := nI 1) hx hb d_r_enterRing_75 (by decide) ?_
          refine ln_iadd hx hb d_r_enterRing_76 ?_
          refine rp_2 S hw d_r_enterRing_77 (fun H locs hw => ?_)
          exact r_vret S hr hlk hw d_r_enterRing_80 (⟨ins_lay he hlo hhi, fun x y h1 h2 h3 => by rw [up2_ap, if_neg h3, up2_g h2, up2_g h1]; exact hfr x y h1 h2⟩)
        · refine lv_aload_n hx hb d_r_enterRing_21 rfl (lv_at hl 0 rfl) ?_
          refine rg_3 S hw d_r_enterRing_22 ?_
          refine lv_iload_n hx hb d_r_enterRing_25 rfl (lv_at hl 3 rfl) ?_
          refine lv_aload_n hx hb d_r_enterRing_26 rfl (lv_at hl 0 rfl) ?_
          refine rg_3 S hw d_r_enterRing_27 ?_
          refine lv_iload_n hx hb d_r_enterRing_30 rfl (lv_at hl 3 rfl) ?_
          refine lv_iconst (v := nI 1) hx hb d_r_enterRing_31 (by decide) ?_
          refine ln_isub hx hb d_r_enterRing_32 (by omega) ?_
          refine rl_3 S hw d_r_enterRing_33 (by omega) ?_
          refine rs_3 S hw d_r_enterRing_34 (by omega) (fun H locs hw => ?_)
          refine lv_aload_n hx hb d_r_enterRing_35 rfl (lv_at hl 0 rfl) ?_
          refine rg_4 S hw d_r_enterRing_36 ?_
          refine lv_iload_n hx hb d_r_enterRing_39 rfl (lv_at hl 3 rfl) ?_
          refine lv_aload_n hx hb d_r_enterRing_40 rfl (lv_at hl 0 rfl) ?_
          refine rg_4 S hw d_r_enterRing_41 ?_
          refine lv_iload_n hx hb d_r_enterRing_44 rfl (lv_at hl 3 rfl) ?_
          refine lv_iconst (v := nI 1) hx hb d_r_enterRing_45 (by decide) ?_
          refine ln_isub hx hb d_r_enterRing_46 (by omega) ?_
          refine rl_4 S hw d_r_enterRing_47 (by omega) ?_
          refine rs_4 S hw d_r_enterRing_48 (by omega) (by have e := (hlo (a - 1) (by omega)).2; show vp_nar .byte (σ 4 (a - 1)) = σ 4 (a - 1); rw [e]; exact nar_small (by have := ho (a - 1) (by omega); omega)) (fun H locs hw => ?_)
          refine lv_iinc (v := nI (a - 1)) (lv' := [(3, .int (nI (a - 1))), (0, .ref (ad 0)), (1, .int (pt)), (2, .int (nI m))]) hx hb d_r_enterRing_49 hl (k := 3) rfl (ln_dec (by omega)) (by decide) rfl (fun ls hl => ?_)
          refine lv_goto (tgt := 5) hx hb d_r_enterRing_52 (by decide) ?_
          have hsh := ins_shift c_6 ha hlo hhi
          exact ih5 (a - 1) (up2 (up2 σ 3 a (σ 3 (a - 1))) 4 a ((up2 σ 3 a (σ 3 (a - 1))) 4 (a - 1))) _ _ _ (by omega) ((posR_step c_6 (by rw [← (hlo (a - 1) (by omega)).1]; exact Int32.not_le.mp c_18)).symm.trans hp) hsh.1 hsh.2 (fun x y h1 h2 => by rw [up2_g h2, up2_g h1]; exact hfr x y h1 h2) (by omega) hw (lv_sub hl [1, 2, 3, 0] rfl)
  exact L5 (r.1 + 1) (r.1) σ0 _ _ _ (Nat.le_refl _) rfl hpre.2 (fun j h1 h2 => absurd h1 (by omega)) (fun _ _ _ _ => rfl) (by omega) hw (lv_sub hl [1, 2, 3, 0] rfl)

set_option maxHeartbeats 4000000 in
set_option maxRecDepth 100000 in
theorem c_r_layRing (l : Launch) (M : Nat) (hM : M < 64) : rCv wr tr_ l y_r_layRing w_r_layRing 2 41 [] (fun σ => σ 0 0 = nI M) (fun σ σ' => Lay σ' (layR M 24) ∧ ∀ x y, x ≠ 3 → x ≠ 4 → ¬ (x = 0 ∧ y = 2) → σ' x y = σ x y) := by
  refine rCv.mk (b := b_r_layRing) (nL := 4) R_rr (by decide) rfl (Nat.le_of_ble_eq_true rfl) ?_
  intro D ad cs σ0 hpre p e s mi args below meth c A S hr hlk hw ls hl
  have hx := S.1
  have hb := S.2.1
  have hts := S.2.2.2.2
  have hown := S.2.2.2.1
  have hl : lv_has ls 4 [(0, .ref (ad 0))] := hl
  refine lv_aload_n hx hb d_r_layRing_0 rfl (lv_at hl 0 rfl) ?_
  refine lv_iconst (v := nI 0) hx hb d_r_layRing_1 (by decide) ?_
  refine rp_2 S hw d_r_layRing_2 (fun H locs hw => ?_)
  refine lv_iconst (v := nI 0) hx hb d_r_layRing_5 (by decide) ?_
  refine lv_istore_n (lv' := [(1, .int (nI 0)), (0, .ref (ad 0))]) hx hb d_r_layRing_6 rfl hl (by decide) rfl (fun ls hl => ?_)
  have L7 : ∀ (n : Nat) (m : Nat) (σ : St) (H : Heap) (locs : List Loc) (ls : Array Slot), m ≤ 6 → 7 ≤ m + n → Lay σ (layR M (4 * m)) → (∀ x y, x ≠ 3 → x ≠ 4 → ¬ (x = 0 ∧ y = 2) → σ x y = σ0 x y) → rW wr tr_ D ad cs A s σ H locs → lv_has ls 4 [(0, .ref (ad 0)), (1, .int (nI m))] → W p l e { frames := 2, cells := 0, slots := 0, locals := 41 } s mi args below meth c H locs 0 0 (MQ below (va_Qv ((fun σ σ' => Lay σ' (layR M 24) ∧ ∀ x y, x ≠ 3 → x ≠ 4 → ¬ (x = 0 ∧ y = 2) → σ' x y = σ x y) σ0) (rB wr tr_ D ad cs A) A) args s 0 0 A) (F0 mi 7 ls []) := by
    intro n
    induction n with
    | zero =>
      intro m σ H locs ls hm hn hL hfr hw hl
      omega
    | succ n ih7 =>
      intro m σ H locs ls hm hn hL hfr hw hl
      refine lv_iload_n hx hb d_r_layRing_7 rfl (lv_at hl 1 rfl) ?_
      refine lv_bipush (v := nI 6) hx hb d_r_layRing_8 (by decide) ?_
      refine ln_icmp_ge (tgt := 58) hx hb d_r_layRing_10 (by decide) (⟨by omega, by omega⟩) (fun c_10 => ?_) (fun c_10 => ?_)
      · exact r_vret S hr hlk hw d_r_layRing_58 (⟨by rw [show 24 = 4 * m by omega]; exact hL, hfr⟩)
      · refine lv_iconst (v := nI 0) hx hb d_r_layRing_13 (by decide) ?_
        refine lv_istore_n (lv' := [(2, .int (nI 0)), (0, .ref (ad 0)), (1, .int (nI m))]) hx hb d_r_layRing_14 rfl hl (by decide) rfl (fun ls hl => ?_)
        have L15 : ∀ (n : Nat) (i : Nat) (σ : St) (H : Heap) (locs : List Loc) (ls : Array Slot), i ≤ 4 → 5 ≤ i + n → Lay σ (layR M (4 * m + i)) → (∀ x y, x ≠ 3 → x ≠ 4 → ¬ (x = 0 ∧ y = 2) → σ x y = σ0 x y) → rW wr tr_ D ad cs A s σ H locs → lv_has ls 4 [(0, .ref (ad 0)), (1, .int (nI m)), (2, .int (nI i))] → W p l e { frames := 2, cells := 0, slots := 0, locals := 41 } s mi args below meth c H locs 0 0 (MQ below (va_Qv ((fun σ σ' => Lay σ' (layR M 24) ∧ ∀ x y, x ≠ 3 → x ≠ 4 → ¬ (x = 0 ∧ y = 2) → σ' x y = σ x y) σ0) (rB wr tr_ D ad cs A) A) args s 0 0 A) (F0 mi 15 ls []) := by
          intro n
          induction n with
          | zero =>
            intro i σ H locs ls hi hn hL hfr hw hl
            omega
          | succ n ih15 =>
            intro i σ H locs ls hi hn hL hfr hw hl
            refine lv_iload_n hx hb d_r_layRing_15 rfl (lv_at hl 2 rfl) ?_
            refine lv_iconst (v := nI 4) hx hb d_r_layRing_16 (by decide) ?_
            refine ln_icmp_ge (tgt := 52) hx hb d_r_layRing_17 (by decide) (⟨by omega, by omega⟩) (fun c_17 => ?_) (fun c_17 => ?_)
            · refine ln_iinc (lv' := [(1, .int (nI (m + 1))), (0, .ref (ad 0)), (2, .int (nI i))]) hx hb d_r_layRing_52 hl (k := 1) rfl rfl (by decide) rfl (fun ls hl => ?_)
              refine lv_goto (tgt := 7) hx hb d_r_layRing_55 (by decide) ?_
              exact ih7 (m + 1) σ _ _ _ (by omega) (by omega) (by rw [show 4 * (m + 1) = 4 * m + i by omega]; exact hL) hfr hw (lv_sub hl [1, 0] rfl)
            · refine lv_aload_n hx hb d_r_layRing_20 rfl (lv_at hl 0 rfl) ?_
              refine lv_iload_n hx hb d_r_layRing_21 rfl (lv_at hl 1 rfl) ?_
              refine r_calli (rest := []) S hw k_r_r_isMember (c_r_isMember l (nI m) M hM) ((hfr 0 0 (by decide) (by decide) (by decide)).trans hpre) rfl rfl ⟨by decide, by decide⟩ rfl hl.1 rfl (Nat.le_of_ble_eq_true rfl) ⟨Nat.le_refl _, Nat.le_refl _⟩ d_r_layRing_22 (fun r1 σ1 H locs hq1 hw => ?_)
              obtain ⟨es1, er1⟩ := hq1
              rw [es1] at hw
              refine ln_top (er1.trans (bI_congr (mem_nI (by omega)))) ?_
              refine lb_if_eq (tgt := 46) hx hb d_r_layRing_25 (by decide) (fun c_25 => ?_) (fun c_25 => ?_)
              · refine ln_iinc (lv' := [(2, .int (nI (i + 1))), (0, .ref (ad 0)), (1, .int (nI m))]) hx hb d_r_layRing_46 hl (k := 2) rfl rfl (by decide) rfl (fun ls hl => ?_)
                refine lv_goto (tgt := 15) hx hb d_r_layRing_49 (by decide) ?_
                exact ih15 (i + 1) σ _ _ _ (by omega) (by omega) (by rw [layR_F (by omega) c_25]; exact hL) hfr hw (lv_sub hl [1, 2, 0] rfl)
              · refine lv_iload_n hx hb d_r_layRing_28 rfl (lv_at hl 1 rfl) ?_
                refine lv_iconst (v := nI 4) hx hb d_r_layRing_29 (by decide) ?_
                refine ln_imul hx hb d_r_layRing_30 ?_
                refine lv_iload_n hx hb d_r_layRing_31 rfl (lv_at hl 2 rfl) ?_
                refine ln_iadd hx hb d_r_layRing_32 ?_
                refine lv_bipush (v := nI 100) hx hb d_r_layRing_33 (by decide) ?_
                refine ln_iadd hx hb d_r_layRing_35 ?_
                refine r_calls (rest := []) S k_r_r_mixed (c_r_mixed l (nI (((m * 4) + i) + 100))) ⟨by decide, by decide⟩ rfl hl.1 rfl (Nat.le_of_ble_eq_true rfl) ⟨Nat.le_refl _, Nat.le_refl _⟩ d_r_layRing_36 ?_
                refine lv_istore_n (lv' := [(3, .int (mx (nI (((m * 4) + i) + 100)))), (0, .ref (ad 0)), (1, .int (nI m)), (2, .int (nI i))]) hx hb d_r_layRing_39 rfl hl (by decide) rfl (fun ls hl => ?_)
                refine lv_aload_n hx hb d_r_layRing_40 rfl (lv_at hl 1 rfl) ?_
                refine lv_iload_n hx hb d_r_layRing_41 rfl (lv_at hl 0 rfl) ?_
                refine lv_iload_n hx hb d_r_layRing_42 rfl (lv_at hl 2 rfl) ?_
                refine r_callv (rest := []) S hw k_r_r_enterRing (c_r_enterRing l (layR M (4 * m + i)) (mx (nI (((m * 4) + i) + 100))) m (by have := layR_len M (4 * m + i); omega) (fun j hj => (layR_own M (4 * m + i) (by omega) j hj).1) (by omega)) (hL) rfl rfl ⟨by decide, by decide⟩ rfl hl.1 rfl (Nat.le_of_ble_eq_true rfl) ⟨Nat.le_refl _, Nat.le_refl _⟩ d_r_layRing_43 (fun σ2 H locs hq2 hw => ?_)
                obtain ⟨hL2, hfr2⟩ := hq2
                refine ln_iinc (lv' := [(2, .int (nI (i + 1))), (3, .int (mx (nI (((m * 4) + i) + 100)))), (0, .ref (ad 0)), (1, .int (nI m))]) hx hb d_r_layRing_46 hl (k := 3) rfl rfl (by decide) rfl (fun ls hl => ?_)
                refine lv_goto (tgt := 15) hx hb d_r_layRing_49 (by decide) ?_
                exact ih15 (i + 1) σ2 _ _ _ (by omega) (by omega) (by rw [layR_T (by omega) c_25]; exact hL2) (fun x y h1 h2 h3 => (hfr2 x y h1 h2 h3).trans (hfr x y h1 h2 h3)) hw (lv_sub hl [2, 3, 0] rfl)
        exact L15 5 (0) σ _ _ _ (by omega) (by omega) hL hfr hw (lv_sub hl [1, 2, 0] rfl)
  exact L7 7 (0) (up2 σ0 0 2 (nI 0)) _ _ _ (by omega) (by omega) ⟨rfl, fun j h => absurd h (Nat.not_lt_zero j)⟩ (fun x y _ _ h => by rw [up2_ap, if_neg h]) hw (lv_sub hl [1, 0] rfl)

theorem kset {σ : St} {acc : List Nat} {fd ow : Nat} (hfd : fd = acc.length) (hkp : ∀ j, j < fd → σ 11 j = nI (acc.getD j 0)) : ∀ j, j < fd + 1 → (up2 σ 11 fd (nI ow)) 11 j = nI ((acc ++ [ow]).getD j 0) := by
  intro j hj
  by_cases h : j = fd
  · subst h
    rw [up2_s, hfd]; simp
  · rw [up2_n h, hkp j (by omega)]
    simp only [List.getD_eq_getElem?_getD]
    rw [List.getElem?_append_left (by omega)]

set_option maxHeartbeats 4000000 in
set_option maxRecDepth 100000 in
theorem c_r_findKeepers (l : Launch) (k : Nat) (M : Nat) (hM : okM M) : rCv wr tr_ l y_r_findKeepers w_r_findKeepers 1 21 [.int (nI k)] (fun σ => Lay σ (layR M 24)) (fun σ σ' => (∀ i, i < 3 → σ' 11 i = nI (kp M k i)) ∧ ∀ x y, x ≠ 11 → σ' x y = σ x y) := by
  refine rCv.mk (b := b_r_findKeepers) (nL := 9) R_rr (by decide) rfl (Nat.le_of_ble_eq_true rfl) ?_
  intro D ad cs σ0 hpre p e s mi args below meth c A S hr hlk hw ls hl
  have hx := S.1
  have hb := S.2.1
  have hts := S.2.2.2.2
  have hown := S.2.2.2.1
  have hl : lv_has ls 9 [(0, .ref (ad 0)), (1, .int (nI k))] := hl
  have h24 := layR_len M 24
  have hown6 := layR_own M 24 (Nat.le_refl _)
  obtain ⟨r, er⟩ : ∃ z, z = layR M 24 := ⟨_, rfl⟩
  have hkl : kl M k = pickR r (lowR M k) r.1 0 [] := by rw [er]; rfl
  have hlw : lowR M k = bsR r.2 (mx (nI k)) 6 0 r.1 := by rw [er]; rfl
  rw [← er] at hpre h24 hown6
  refine lv_iload_n hx hb d_r_findKeepers_0 rfl (lv_at hl 1 rfl) ?_
  refine r_calls (rest := []) S k_r_r_mixed (c_r_mixed l (nI k)) ⟨by decide, by decide⟩ rfl hl.1 rfl (Nat.le_of_ble_eq_true rfl) ⟨Nat.le_refl _, Nat.le_refl _⟩ d_r_findKeepers_1 ?_
  refine lv_istore_n (lv' := [(2, .int (mx (nI k))), (0, .ref (ad 0)), (1, .int (nI k))]) hx hb d_r_findKeepers_4 rfl hl (by decide) rfl (fun ls hl => ?_)
  refine lv_iconst (v := nI 0) hx hb d_r_findKeepers_5 (by decide) ?_
  refine lv_istore_n (lv' := [(3, .int (nI 0)), (2, .int (mx (nI k))), (0, .ref (ad 0)), (1, .int (nI k))]) hx hb d_r_findKeepers_6 rfl hl (by decide) rfl (fun ls hl => ?_)
  refine lv_aload_n hx hb d_r_findKeepers_7 rfl (lv_at hl 2 rfl) ?_
  refine rg_2 S hw d_r_findKeepers_8 ?_
  refine ln_top (hpre.1) ?_
  refine lv_istore (lv' := [(4, .int (nI r.1)), (3, .int (nI 0)), (2, .int (mx (nI k))), (0, .ref (ad 0)), (1, .int (nI k))]) hx hb d_r_findKeepers_11 hl (by decide) rfl (fun ls hl => ?_)
  refine lv_iconst (v := nI 0) hx hb d_r_findKeepers_13 (by decide) ?_
  refine lv_istore (lv' := [(5, .int (nI 0)), (4, .int (nI r.1)), (3, .int (nI 0)), (2, .int (mx (nI k))), (0, .ref (ad 0)), (1, .int (nI k))]) hx hb d_r_findKeepers_14 hl (by decide) rfl (fun ls hl => ?_)
  have L16 : ∀ (n : Nat) (rd : Nat) (lo : Nat) (hi : Nat) (ls : Array Slot), rd ≤ 6 → 7 ≤ rd + n → lo ≤ hi → hi ≤ r.1 → bsR r.2 (mx (nI k)) (6 - rd) lo hi = bsR r.2 (mx (nI k)) 6 0 r.1 → lv_has ls 9 [(0, .ref (ad 0)), (1, .int (nI k)), (2, .int (mx (nI k))), (3, .int (nI lo)), (4, .int (nI hi)), (5, .int (nI rd))] → W p l e { frames := 1, cells := 0, slots := 0, locals := 21 } s mi args below meth c s.heap [] 0 0 (MQ below (va_Qv ((fun σ σ' => (∀ i, i < 3 → σ' 11 i = nI (kp M k i)) ∧ ∀ x y, x ≠ 11 → σ' x y = σ x y) σ0) (rB wr tr_ D ad cs A) A) args s 0 0 A) (F0 mi 16 ls []) := by
    intro n
    induction n with
    | zero =>
      intro rd lo hi ls h6 hn h1 h2 hbs hl
      omega
    | succ n ih16 =>
      intro rd lo hi ls h6 hn h1 h2 hbs hl
      refine lv_iload hx hb d_r_findKeepers_16 (lv_at hl 5 rfl) ?_
      refine lv_bipush (v := nI 6) hx hb d_r_findKeepers_18 (by decide) ?_
      refine ln_icmp_ge (tgt := 66) hx hb d_r_findKeepers_20 (by decide) (⟨by omega, by omega⟩) (fun c_20 => ?_) (fun c_20 => ?_)
      · have hlow : lowR M k = lo := by
          rw [hlw, ← hbs]
          first | exact bsR_E (by omega) | (rw [show 6 - rd = 0 by omega]; rfl)
        refine lv_iconst (v := nI 0) hx hb d_r_findKeepers_66 (by decide) ?_
        refine lv_istore (lv' := [(5, .int (nI 0)), (0, .ref (ad 0)), (1, .int (nI k)), (2, .int (mx (nI k))), (3, .int (nI lo)), (4, .int (nI hi))]) hx hb d_r_findKeepers_67 hl (by decide) rfl (fun ls hl => ?_)
        refine lv_iconst (v := nI 0) hx hb d_r_findKeepers_69 (by decide) ?_
        refine lv_istore (lv' := [(6, .int (nI 0)), (5, .int (nI 0)), (0, .ref (ad 0)), (1, .int (nI k)), (2, .int (mx (nI k))), (3, .int (nI lo)), (4, .int (nI hi))]) hx hb d_r_findKeepers_70 hl (by decide) rfl (fun ls hl => ?_)
        refine lv_iconst (v := nI 0) hx hb d_r_findKeepers_72 (by decide) ?_
        refine lv_istore (lv' := [(7, .int (nI 0)), (6, .int (nI 0)), (5, .int (nI 0)), (0, .ref (ad 0)), (1, .int (nI k)), (2, .int (mx (nI k))), (3, .int (nI lo)), (4, .int (nI hi))]) hx hb d_r_findKeepers_73 hl (by decide) rfl (fun ls hl => ?_)
        have L75 : ∀ (n : Nat) (i : Nat) (fd : Nat) (s0 : Nat) (acc : List Nat) (σ : St) (H : Heap) (locs : List Loc) (ls : Array Slot), i ≤ r.1 → r.1 + 1 ≤ i + n → pickR r lo (r.1 - i) i acc = kl M k → fd = acc.length → fd ≤ 3 → s0 < 64 → (∀ x, x < 6 → (s0.testBit x = true ↔ x ∈ acc)) → (∀ j, j < fd → σ 11 j = nI (acc.getD j 0)) → (∀ x y, x ≠ 11 → σ x y = σ0 x y) → rW wr tr_ D ad cs A s σ H locs → lv_has ls 9 [(0, .ref (ad 0)), (3, .int (nI lo)), (5, .int (nI fd)), (6, .int (nI s0)), (7, .int (nI i))] → W p l e { frames := 1, cells := 0, slots := 0, locals := 21 } s mi args below meth c H locs 0 0 (MQ below (va_Qv ((fun σ σ' => (∀ i, i < 3 → σ' 11 i = nI (kp M k i)) ∧ ∀ x y, x ≠ 11 → σ' x y = σ x y) σ0) (rB wr tr_ D ad cs A) A) args s 0 0 A) (F0 mi 75 ls []) := by
          intro n
          induction n with
          | zero =>
            intro i fd s0 acc σ H locs ls hi hn hpk hfd hf3 hs0 hset hkp hfr hw hl
            omega
          | succ n ih75 =>
            intro i fd s0 acc σ H locs ls hi hn hpk hfd hf3 hs0 hset hkp hfr hw hl
            refine lv_iload hx hb d_r_findKeepers_75 (lv_at hl 4 rfl) ?_
            refine lv_aload_n hx hb d_r_findKeepers_77 rfl (lv_at hl 0 rfl) ?_
            refine rg_2 S hw d_r_findKeepers_78 ?_
            refine ln_top ((hfr 0 2 (by decide)).trans hpre.1) ?_
            refine ln_icmp_ge (tgt := 144) hx hb d_r_findKeepers_81 (by decide) (⟨by omega, by omega⟩) (fun c_81 => ?_) (fun c_81 => ?_)
            · have hacc : acc = kl M k := by rw [← hpk]; exact (pickR_E (by omega)).symm
              have h3 := (kl_ok hM k).2.1
              exact r_vret S hr hlk hw d_r_findKeepers_144 (⟨fun j hj => by unfold kp; rw [← hacc]; exact hkp j (by rw [hfd, hacc]; omega), hfr⟩)
            · refine lv_iload hx hb d_r_findKeepers_84 (lv_at hl 2 rfl) ?_
              refine lv_iconst (v := nI 3) hx hb d_r_findKeepers_86 (by decide) ?_
              refine ln_icmp_ge (tgt := 144) hx hb d_r_findKeepers_87 (by decide) (⟨by omega, by omega⟩) (fun c_87 => ?_) (fun c_87 => ?_)
              · have hacc : acc = kl M k := by rw [← hpk]; exact (pickR_E (by omega)).symm
                have h3 := (kl_ok hM k).2.1
                exact r_vret S hr hlk hw d_r_findKeepers_144 (⟨fun j hj => by unfold kp; rw [← hacc]; exact hkp j (by rw [hfd, hacc]; omega), hfr⟩)
              · refine lv_aload_n hx hb d_r_findKeepers_90 rfl (lv_at hl 0 rfl) ?_
                refine rg_4 S hw d_r_findKeepers_91 ?_
                refine lv_iload_n hx hb d_r_findKeepers_94 rfl (lv_at hl 1 rfl) ?_
                refine lv_iload hx hb d_r_findKeepers_95 (lv_at hl 4 rfl) ?_
                refine ln_iadd hx hb d_r_findKeepers_97 ?_
                refine lv_aload_n hx hb d_r_findKeepers_98 rfl (lv_at hl 0 rfl) ?_
                refine rg_2 S hw d_r_findKeepers_99 ?_
                refine ln_top ((hfr 0 2 (by decide)).trans hpre.1) ?_
                refine ln_irem hx hb d_r_findKeepers_102 ⟨by omega, by omega, by omega⟩ ?_
                refine rl_4 S hw d_r_findKeepers_103 (Nat.lt_of_lt_of_le (Nat.mod_lt _ (by omega)) h24) ?_
                refine ln_top ((hfr 4 _ (by decide)).trans (hpre.2 _ (Nat.mod_lt _ (by omega))).2) ?_
                obtain ⟨ow, eow⟩ : ∃ z, z = (r.2 ((lo + i) % r.1)).2 := ⟨_, rfl⟩
                rw [← eow]
                have how : ow < 6 := by rw [eow]; exact (hown6 _ (Nat.mod_lt _ (by omega))).1
                refine lv_istore (lv' := [(8, .int (nI ow)), (0, .ref (ad 0)), (3, .int (nI lo)), (5, .int (nI fd)), (6, .int (nI s0)), (7, .int (nI i))]) hx hb d_r_findKeepers_104 hl (by decide) rfl (fun ls hl => ?_)
                refine lv_iload hx hb d_r_findKeepers_106 (lv_at hl 4 rfl) ?_
                refine lv_iload hx hb d_r_findKeepers_108 (lv_at hl 0 rfl) ?_
                refine lv_ishr hx hb d_r_findKeepers_110 ?_
                refine lv_iconst (v := nI 1) hx hb d_r_findKeepers_111 (by decide) ?_
                refine lv_iand hx hb d_r_findKeepers_112 ?_
                refine ln_top (bit6 s0 hs0 ow how) ?_
                refine lb_if_ne (tgt := 138) hx hb d_r_findKeepers_113 (by decide) (fun c_113 => ?_) (fun c_113 => ?_)
                · refine ln_iinc (lv' := [(7, .int (nI (i + 1))), (8, .int (nI ow)), (0, .ref (ad 0)), (3, .int (nI lo)), (5, .int (nI fd)), (6, .int (nI s0))]) hx hb d_r_findKeepers_138 hl (k := 5) rfl rfl (by decide) rfl (fun ls hl => ?_)
                  refine lv_goto (tgt := 75) hx hb d_r_findKeepers_141 (by decide) ?_
                  exact ih75 (i + 1) (fd) (s0) (acc) σ _ _ _ (by omega) (by omega) ((pickR_Y (by omega) (by omega) (by rw [← eow]; exact (hset ow how).mp c_113)).symm.trans hpk) hfd (by omega) hs0 hset hkp hfr hw (lv_sub hl [2, 3, 4, 5, 0] rfl)
                · refine lv_iload hx hb d_r_findKeepers_116 (lv_at hl 4 rfl) ?_
                  refine lv_iconst (v := nI 1) hx hb d_r_findKeepers_118 (by decide) ?_
                  refine lv_iload hx hb d_r_findKeepers_119 (lv_at hl 0 rfl) ?_
                  refine lv_ishl hx hb d_r_findKeepers_121 ?_
                  refine lv_ior hx hb d_r_findKeepers_122 ?_
                  refine ln_top (or6 s0 hs0 ow how).1 ?_
                  refine lv_istore (lv' := [(6, .int (nI (s0 ||| 2 ^ ow))), (8, .int (nI ow)), (0, .ref (ad 0)), (3, .int (nI lo)), (5, .int (nI fd)), (7, .int (nI i))]) hx hb d_r_findKeepers_123 hl (by decide) rfl (fun ls hl => ?_)
                  refine lv_aload_n hx hb d_r_findKeepers_125 rfl (lv_at hl 2 rfl) ?_
                  refine rg_11 S hw d_r_findKeepers_126 ?_
                  refine lv_iload hx hb d_r_findKeepers_129 (lv_at hl 4 rfl) ?_
                  refine lv_iload hx hb d_r_findKeepers_131 (lv_at hl 1 rfl) ?_
                  refine lv_i2b (v := nI ow) hx hb d_r_findKeepers_133 (i2b_small (by omega)) ?_
                  refine rs_11 S hw d_r_findKeepers_134 (by omega) (nar_small (by omega)) (fun H locs hw => ?_)
                  refine ln_iinc (lv' := [(5, .int (nI (fd + 1))), (6, .int (nI (s0 ||| 2 ^ ow))), (8, .int (nI ow)), (0, .ref (ad 0)), (3, .int (nI lo)), (7, .int (nI i))]) hx hb d_r_findKeepers_135 hl (k := 4) rfl rfl (by decide) rfl (fun ls hl => ?_)
                  refine ln_iinc (lv' := [(7, .int (nI (i + 1))), (5, .int (nI (fd + 1))), (6, .int (nI (s0 ||| 2 ^ ow))), (8, .int (nI ow)), (0, .ref (ad 0)), (3, .int (nI lo))]) hx hb d_r_findKeepers_138 hl (k := 5) rfl rfl (by decide) rfl (fun ls hl => ?_)
                  refine lv_goto (tgt := 75) hx hb d_r_findKeepers_141 (by decide) ?_
                  exact ih75 (i + 1) (fd + 1) (s0 ||| 2 ^ ow) (acc ++ [ow]) (up2 σ 11 fd (nI ow)) _ _ _ (by omega) (by omega) (by have h := (pickR_N (r := r) (lo := lo) (i := i) (n := r.1) (acc := acc) (by omega) (by omega) (by rw [← eow]; exact fun h => c_113 ((hset ow how).mpr h))).symm.trans hpk; rw [← eow] at h; exact h) (by simp [hfd]) (by omega) (or6 s0 hs0 ow how).2.1 (fun x hx => by rw [(or6 s0 hs0 ow how).2.2 x hx]; have := hset x hx; simp [this]) (fun j hj => kset hfd hkp j hj) (fun x y h => by rw [up2_g h]; exact hfr x y h) hw (lv_sub hl [4, 5, 1, 2, 0] rfl)
        exact L75 (r.1 + 1) (0) (0) (0) ([]) σ0 _ _ _ (by omega) (by omega) (by rw [hkl, hlow]; rfl) rfl (by omega) (by omega) (fun x _ => by simp) (fun j h => absurd h (Nat.not_lt_zero j)) (fun _ _ _ => rfl) hw (lv_sub hl [3, 6, 2, 1, 0] rfl)
      · refine lv_iload_n hx hb d_r_findKeepers_23 rfl (lv_at hl 3 rfl) ?_
        refine lv_iload hx hb d_r_findKeepers_24 (lv_at hl 4 rfl) ?_
        refine ln_icmp_ge (tgt := 66) hx hb d_r_findKeepers_26 (by decide) (⟨by omega, by omega⟩) (fun c_26 => ?_) (fun c_26 => ?_)
        · have hlow : lowR M k = lo := by
            rw [hlw, ← hbs]
            first | exact bsR_E (by omega) | (rw [show 6 - rd = 0 by omega]; rfl)
          refine lv_iconst (v := nI 0) hx hb d_r_findKeepers_66 (by decide) ?_
          refine lv_istore (lv' := [(5, .int (nI 0)), (0, .ref (ad 0)), (1, .int (nI k)), (2, .int (mx (nI k))), (3, .int (nI lo)), (4, .int (nI hi))]) hx hb d_r_findKeepers_67 hl (by decide) rfl (fun ls hl => ?_)
          refine lv_iconst (v := nI 0) hx hb d_r_findKeepers_69 (by decide) ?_
          refine lv_istore (lv' := [(6, .int (nI 0)), (5, .int (nI 0)), (0, .ref (ad 0)), (1, .int (nI k)), (2, .int (mx (nI k))), (3, .int (nI lo)), (4, .int (nI hi))]) hx hb d_r_findKeepers_70 hl (by decide) rfl (fun ls hl => ?_)
          refine lv_iconst (v := nI 0) hx hb d_r_findKeepers_72 (by decide) ?_
          refine lv_istore (lv' := [(7, .int (nI 0)), (6, .int (nI 0)), (5, .int (nI 0)), (0, .ref (ad 0)), (1, .int (nI k)), (2, .int (mx (nI k))), (3, .int (nI lo)), (4, .int (nI hi))]) hx hb d_r_findKeepers_73 hl (by decide) rfl (fun ls hl => ?_)
          have L75 : ∀ (n : Nat) (i : Nat) (fd : Nat) (s0 : Nat) (acc : List Nat) (σ : St) (H : Heap) (locs : List Loc) (ls : Array Slot), i ≤ r.1 → r.1 + 1 ≤ i + n → pickR r lo (r.1 - i) i acc = kl M k → fd = acc.length → fd ≤ 3 → s0 < 64 → (∀ x, x < 6 → (s0.testBit x = true ↔ x ∈ acc)) → (∀ j, j < fd → σ 11 j = nI (acc.getD j 0)) → (∀ x y, x ≠ 11 → σ x y = σ0 x y) → rW wr tr_ D ad cs A s σ H locs → lv_has ls 9 [(0, .ref (ad 0)), (3, .int (nI lo)), (5, .int (nI fd)), (6, .int (nI s0)), (7, .int (nI i))] → W p l e { frames := 1, cells := 0, slots := 0, locals := 21 } s mi args below meth c H locs 0 0 (MQ below (va_Qv ((fun σ σ' => (∀ i, i < 3 → σ' 11 i = nI (kp M k i)) ∧ ∀ x y, x ≠ 11 → σ' x y = σ x y) σ0) (rB wr tr_ D ad cs A) A) args s 0 0 A) (F0 mi 75 ls []) := by
            intro n
            induction n with
            | zero =>
              intro i fd s0 acc σ H locs ls hi hn hpk hfd hf3 hs0 hset hkp hfr hw hl
              omega
            | succ n ih75 =>
              intro i fd s0 acc σ H locs ls hi hn hpk hfd hf3 hs0 hset hkp hfr hw hl
              refine lv_iload hx hb d_r_findKeepers_75 (lv_at hl 4 rfl) ?_
              refine lv_aload_n hx hb d_r_findKeepers_77 rfl (lv_at hl 0 rfl) ?_
              refine rg_2 S hw d_r_findKeepers_78 ?_
              refine ln_top ((hfr 0 2 (by decide)).trans hpre.1) ?_
              refine ln_icmp_ge (tgt := 144) hx hb d_r_findKeepers_81 (by decide) (⟨by omega, by omega⟩) (fun c_81 => ?_) (fun c_81 => ?_)
              · have hacc : acc = kl M k := by rw [← hpk]; exact (pickR_E (by omega)).symm
                have h3 := (kl_ok hM k).2.1
                exact r_vret S hr hlk hw d_r_findKeepers_144 (⟨fun j hj => by unfold kp; rw [← hacc]; exact hkp j (by rw [hfd, hacc]; omega), hfr⟩)
              · refine lv_iload hx hb d_r_findKeepers_84 (lv_at hl 2 rfl) ?_
                refine lv_iconst (v := nI 3) hx hb d_r_findKeepers_86 (by decide) ?_
                refine ln_icmp_ge (tgt := 144) hx hb d_r_findKeepers_87 (by decide) (⟨by omega, by omega⟩) (fun c_87 => ?_) (fun c_87 => ?_)
                · have hacc : acc = kl M k := by rw [← hpk]; exact (pickR_E (by omega)).symm
                  have h3 := (kl_ok hM k).2.1
                  exact r_vret S hr hlk hw d_r_findKeepers_144 (⟨fun j hj => by unfold kp; rw [← hacc]; exact hkp j (by rw [hfd, hacc]; omega), hfr⟩)
                · refine lv_aload_n hx hb d_r_findKeepers_90 rfl (lv_at hl 0 rfl) ?_
                  refine rg_4 S hw d_r_findKeepers_91 ?_
                  refine lv_iload_n hx hb d_r_findKeepers_94 rfl (lv_at hl 1 rfl) ?_
                  refine lv_iload hx hb d_r_findKeepers_95 (lv_at hl 4 rfl) ?_
                  refine ln_iadd hx hb d_r_findKeepers_97 ?_
                  refine lv_aload_n hx hb d_r_findKeepers_98 rfl (lv_at hl 0 rfl) ?_
                  refine rg_2 S hw d_r_findKeepers_99 ?_
                  refine ln_top ((hfr 0 2 (by decide)).trans hpre.1) ?_
                  refine ln_irem hx hb d_r_findKeepers_102 ⟨by omega, by omega, by omega⟩ ?_
                  refine rl_4 S hw d_r_findKeepers_103 (Nat.lt_of_lt_of_le (Nat.mod_lt _ (by omega)) h24) ?_
                  refine ln_top ((hfr 4 _ (by decide)).trans (hpre.2 _ (Nat.mod_lt _ (by omega))).2) ?_
                  obtain ⟨ow, eow⟩ : ∃ z, z = (r.2 ((lo + i) % r.1)).2 := ⟨_, rfl⟩
                  rw [← eow]
                  have how : ow < 6 := by rw [eow]; exact (hown6 _ (Nat.mod_lt _ (by omega))).1
                  refine lv_istore (lv' := [(8, .int (nI ow)), (0, .ref (ad 0)), (3, .int (nI lo)), (5, .int (nI fd)), (6, .int (nI s0)), (7, .int (nI i))]) hx hb d_r_findKeepers_104 hl (by decide) rfl (fun ls hl => ?_)
                  refine lv_iload hx hb d_r_findKeepers_106 (lv_at hl 4 rfl) ?_
                  refine lv_iload hx hb d_r_findKeepers_108 (lv_at hl 0 rfl) ?_
                  refine lv_ishr hx hb d_r_findKeepers_110 ?_
                  refine lv_iconst (v := nI 1) hx hb d_r_findKeepers_111 (by decide) ?_
                  refine lv_iand hx hb d_r_findKeepers_112 ?_
                  refine ln_top (bit6 s0 hs0 ow how) ?_
                  refine lb_if_ne (tgt := 138) hx hb d_r_findKeepers_113 (by decide) (fun c_113 => ?_) (fun c_113 => ?_)
                  · refine ln_iinc (lv' := [(7, .int (nI (i + 1))), (8, .int (nI ow)), (0, .ref (ad 0)), (3, .int (nI lo)), (5, .int (nI fd)), (6, .int (nI s0))]) hx hb d_r_findKeepers_138 hl (k := 5) rfl rfl (by decide) rfl (fun ls hl => ?_)
                    refine lv_goto (tgt := 75) hx hb d_r_findKeepers_141 (by decide) ?_
                    exact ih75 (i + 1) (fd) (s0) (acc) σ _ _ _ (by omega) (by omega) ((pickR_Y (by omega) (by omega) (by rw [← eow]; exact (hset ow how).mp c_113)).symm.trans hpk) hfd (by omega) hs0 hset hkp hfr hw (lv_sub hl [2, 3, 4, 5, 0] rfl)
                  · refine lv_iload hx hb d_r_findKeepers_116 (lv_at hl 4 rfl) ?_
                    refine lv_iconst (v := nI 1) hx hb d_r_findKeepers_118 (by decide) ?_
                    refine lv_iload hx hb d_r_findKeepers_119 (lv_at hl 0 rfl) ?_
                    refine lv_ishl hx hb d_r_findKeepers_121 ?_
                    refine lv_ior hx hb d_r_findKeepers_122 ?_
                    refine ln_top (or6 s0 hs0 ow how).1 ?_
                    refine lv_istore (lv' := [(6, .int (nI (s0 ||| 2 ^ ow))), (8, .int (nI ow)), (0, .ref (ad 0)), (3, .int (nI lo)), (5, .int (nI fd)), (7, .int (nI i))]) hx hb d_r_findKeepers_123 hl (by decide) rfl (fun ls hl => ?_)
                    refine lv_aload_n hx hb d_r_findKeepers_125 rfl (lv_at hl 2 rfl) ?_
                    refine rg_11 S hw d_r_findKeepers_126 ?_
                    refine lv_iload hx hb d_r_findKeepers_129 (lv_at hl 4 rfl) ?_
                    refine lv_iload hx hb d_r_findKeepers_131 (lv_at hl 1 rfl) ?_
                    refine lv_i2b (v := nI ow) hx hb d_r_findKeepers_133 (i2b_small (by omega)) ?_
                    refine rs_11 S hw d_r_findKeepers_134 (by omega) (nar_small (by omega)) (fun H locs hw => ?_)
                    refine ln_iinc (lv' := [(5, .int (nI (fd + 1))), (6, .int (nI (s0 ||| 2 ^ ow))), (8, .int (nI ow)), (0, .ref (ad 0)), (3, .int (nI lo)), (7, .int (nI i))]) hx hb d_r_findKeepers_135 hl (k := 4) rfl rfl (by decide) rfl (fun ls hl => ?_)
                    refine ln_iinc (lv' := [(7, .int (nI (i + 1))), (5, .int (nI (fd + 1))), (6, .int (nI (s0 ||| 2 ^ ow))), (8, .int (nI ow)), (0, .ref (ad 0)), (3, .int (nI lo))]) hx hb d_r_findKeepers_138 hl (k := 5) rfl rfl (by decide) rfl (fun ls hl => ?_)
                    refine lv_goto (tgt := 75) hx hb d_r_findKeepers_141 (by decide) ?_
                    exact ih75 (i + 1) (fd + 1) (s0 ||| 2 ^ ow) (acc ++ [ow]) (up2 σ 11 fd (nI ow)) _ _ _ (by omega) (by omega) (by have h := (pickR_N (r := r) (lo := lo) (i := i) (n := r.1) (acc := acc) (by omega) (by omega) (by rw [← eow]; exact fun h => c_113 ((hset ow how).mpr h))).symm.trans hpk; rw [← eow] at h; exact h) (by simp [hfd]) (by omega) (or6 s0 hs0 ow how).2.1 (fun x hx => by rw [(or6 s0 hs0 ow how).2.2 x hx]; have := hset x hx; simp [this]) (fun j hj => kset hfd hkp j hj) (fun x y h => by rw [up2_g h]; exact hfr x y h) hw (lv_sub hl [4, 5, 1, 2, 0] rfl)
          exact L75 (r.1 + 1) (0) (0) (0) ([]) σ0 _ _ _ (by omega) (by omega) (by rw [hkl, hlow]; rfl) rfl (by omega) (by omega) (fun x _ => by simp) (fun j h => absurd h (Nat.not_lt_zero j)) (fun _ _ _ => rfl) hw (lv_sub hl [3, 6, 2, 1, 0] rfl)
        · refine lv_iload_n hx hb d_r_findKeepers_29 rfl (lv_at hl 3 rfl) ?_
          refine lv_iload hx hb d_r_findKeepers_30 (lv_at hl 4 rfl) ?_
          refine ln_iadd hx hb d_r_findKeepers_32 ?_
          refine lv_iconst (v := nI 2) hx hb d_r_findKeepers_33 (by decide) ?_
          refine ln_idiv hx hb d_r_findKeepers_34 ⟨by omega, by omega, by omega⟩ ?_
          refine lv_istore (lv' := [(6, .int (nI ((lo + hi) / 2))), (0, .ref (ad 0)), (1, .int (nI k)), (2, .int (mx (nI k))), (3, .int (nI lo)), (4, .int (nI hi)), (5, .int (nI rd))]) hx hb d_r_findKeepers_35 hl (by decide) rfl (fun ls hl => ?_)
          refine lv_aload_n hx hb d_r_findKeepers_37 rfl (lv_at hl 1 rfl) ?_
          refine rg_3 S hw d_r_findKeepers_38 ?_
          refine lv_iload hx hb d_r_findKeepers_41 (lv_at hl 0 rfl) ?_
          refine rl_3 S hw d_r_findKeepers_43 (by omega) ?_
          refine lv_iload_n hx hb d_r_findKeepers_44 rfl (lv_at hl 3 rfl) ?_
          refine lv_icmp_ge (tgt := 56) hx hb d_r_findKeepers_45 (by decide) (fun c_45 => ?_) (fun c_45 => ?_)
          · refine lv_iload hx hb d_r_findKeepers_56 (lv_at hl 0 rfl) ?_
            refine lv_istore (lv' := [(4, .int (nI ((lo + hi) / 2))), (6, .int (nI ((lo + hi) / 2))), (0, .ref (ad 0)), (1, .int (nI k)), (2, .int (mx (nI k))), (3, .int (nI lo)), (5, .int (nI rd))]) hx hb d_r_findKeepers_58 hl (by decide) rfl (fun ls hl => ?_)
            refine ln_iinc (lv' := [(5, .int (nI (rd + 1))), (4, .int (nI ((lo + hi) / 2))), (6, .int (nI ((lo + hi) / 2))), (0, .ref (ad 0)), (1, .int (nI k)), (2, .int (mx (nI k))), (3, .int (nI lo))]) hx hb d_r_findKeepers_60 hl (k := 6) rfl rfl (by decide) rfl (fun ls hl => ?_)
            refine lv_goto (tgt := 16) hx hb d_r_findKeepers_63 (by decide) ?_
            exact ih16 (rd + 1) (lo) ((lo + hi) / 2) _ (by omega) (by omega) (by omega) (by omega) ((bsR_F c_20 c_26 (by rw [← (hpre.2 _ (by omega)).1]; exact fun h => absurd c_45 (Int32.not_le.mpr h))).symm.trans hbs) (lv_sub hl [3, 4, 5, 6, 1, 0] rfl)
          · refine lv_iload hx hb d_r_findKeepers_48 (lv_at hl 0 rfl) ?_
            refine lv_iconst (v := nI 1) hx hb d_r_findKeepers_50 (by decide) ?_
            refine ln_iadd hx hb d_r_findKeepers_51 ?_
            refine lv_istore_n (lv' := [(3, .int (nI (((lo + hi) / 2) + 1))), (6, .int (nI ((lo + hi) / 2))), (0, .ref (ad 0)), (1, .int (nI k)), (2, .int (mx (nI k))), (4, .int (nI hi)), (5, .int (nI rd))]) hx hb d_r_findKeepers_52 rfl hl (by decide) rfl (fun ls hl => ?_)
            refine lv_goto (tgt := 60) hx hb d_r_findKeepers_53 (by decide) ?_
            refine ln_iinc (lv' := [(5, .int (nI (rd + 1))), (3, .int (nI (((lo + hi) / 2) + 1))), (6, .int (nI ((lo + hi) / 2))), (0, .ref (ad 0)), (1, .int (nI k)), (2, .int (mx (nI k))), (4, .int (nI hi))]) hx hb d_r_findKeepers_60 hl (k := 6) rfl rfl (by decide) rfl (fun ls hl => ?_)
            refine lv_goto (tgt := 16) hx hb d_r_findKeepers_63 (by decide) ?_
            exact ih16 (rd + 1) (((lo + hi) / 2) + 1) (hi) _ (by omega) (by omega) (by omega) (by omega) ((bsR_T c_20 c_26 (by rw [← (hpre.2 _ (by omega)).1]; exact Int32.not_le.mp c_45)).symm.trans hbs) (lv_sub hl [3, 4, 5, 1, 6, 0] rfl)
  exact L16 7 (0) (0) (r.1) _ (by omega) (by omega) (by omega) (by omega) rfl (lv_sub hl [4, 5, 3, 2, 1, 0] rfl)

abbrev kpm (M k m : Nat) : Prop := kp M k 0 = m ∨ kp M k 1 = m ∨ kp M k 2 = m

set_option maxHeartbeats 4000000 in
set_option maxRecDepth 100000 in
theorem c_r_keeps (l : Launch) (m : Nat) (k : Nat) (M : Nat) (hm : m < 6) (hM : okM M) : rCi wr tr_ l y_r_keeps w_r_keeps 2 49 [.int (nI m), .int (nI k)] (fun σ => Lay σ (layR M 24)) (fun σ r σ' => r = bI (kpm M k m) ∧ ∀ x y, x ≠ 11 → σ' x y = σ x y) := by
  refine rCi.mk (b := b_r_keeps) (nL := 3) (rt := .boolean) R_rr (by decide) rfl (Nat.le_of_ble_eq_true rfl) ?_
  intro D ad cs σ0 hpre p e s mi args below meth c A S hr hlk hw ls hl
  have hx := S.1
  have hb := S.2.1
  have hts := S.2.2.2.2
  have hown := S.2.2.2.1
  have hl : lv_has ls 3 [(0, .ref (ad 0)), (1, .int (nI m)), (2, .int (nI k))] := hl
  have k0 := (kp_lt hM k (show 0 < 3 by decide)).1
  have k1 := (kp_lt hM k (show 1 < 3 by decide)).1
  have k2 := (kp_lt hM k (show 2 < 3 by decide)).1
  refine lv_aload_n hx hb d_r_keeps_0 rfl (lv_at hl 0 rfl) ?_
  refine lv_iload_n hx hb d_r_keeps_1 rfl (lv_at hl 2 rfl) ?_
  refine r_callv (rest := []) S hw k_r_r_findKeepers (c_r_findKeepers l k M hM) (hpre) rfl rfl ⟨by decide, by decide⟩ rfl hl.1 rfl (Nat.le_of_ble_eq_true rfl) ⟨Nat.le_refl _, Nat.le_refl _⟩ d_r_keeps_2 (fun σ1 H locs hq1 hw => ?_)
  obtain ⟨hkk, hfr⟩ := hq1
  refine lv_aload_n hx hb d_r_keeps_5 rfl (lv_at hl 0 rfl) ?_
  refine rg_11 S hw d_r_keeps_6 ?_
  refine lv_iconst (v := nI 0) hx hb d_r_keeps_9 (by decide) ?_
  refine rl_11 S hw d_r_keeps_10 (by omega) ?_
  refine ln_top (hkk 0 (by decide)) ?_
  refine lv_iload_n hx hb d_r_keeps_11 rfl (lv_at hl 1 rfl) ?_
  refine ln_icmp_eq (tgt := 35) hx hb d_r_keeps_12 (by decide) (⟨by omega, by omega⟩) (fun c_12 => ?_) (fun c_12 => ?_)
  · refine lv_iconst (v := nI 1) hx hb d_r_keeps_35 (by decide) ?_
    refine lv_goto (tgt := 40) hx hb d_r_keeps_36 (by decide) ?_
    exact r_zret S hr hlk hw d_r_keeps_40 (isB_n1) (⟨bI_t (by first | exact Or.inl c_12 | exact Or.inr (Or.inl c_22) | exact Or.inr (Or.inr c_32)), hfr⟩)
  · refine lv_aload_n hx hb d_r_keeps_15 rfl (lv_at hl 0 rfl) ?_
    refine rg_11 S hw d_r_keeps_16 ?_
    refine lv_iconst (v := nI 1) hx hb d_r_keeps_19 (by decide) ?_
    refine rl_11 S hw d_r_keeps_20 (by omega) ?_
    refine ln_top (hkk 1 (by decide)) ?_
    refine lv_iload_n hx hb d_r_keeps_21 rfl (lv_at hl 1 rfl) ?_
    refine ln_icmp_eq (tgt := 35) hx hb d_r_keeps_22 (by decide) (⟨by omega, by omega⟩) (fun c_22 => ?_) (fun c_22 => ?_)
    · refine lv_iconst (v := nI 1) hx hb d_r_keeps_35 (by decide) ?_
      refine lv_goto (tgt := 40) hx hb d_r_keeps_36 (by decide) ?_
      exact r_zret S hr hlk hw d_r_keeps_40 (isB_n1) (⟨bI_t (by first | exact Or.inl c_12 | exact Or.inr (Or.inl c_22) | exact Or.inr (Or.inr c_32)), hfr⟩)
    · refine lv_aload_n hx hb d_r_keeps_25 rfl (lv_at hl 0 rfl) ?_
      refine rg_11 S hw d_r_keeps_26 ?_
      refine lv_iconst (v := nI 2) hx hb d_r_keeps_29 (by decide) ?_
      refine rl_11 S hw d_r_keeps_30 (by omega) ?_
      refine ln_top (hkk 2 (by decide)) ?_
      refine lv_iload_n hx hb d_r_keeps_31 rfl (lv_at hl 1 rfl) ?_
      refine ln_icmp_ne (tgt := 39) hx hb d_r_keeps_32 (by decide) (⟨by omega, by omega⟩) (fun c_32 => ?_) (fun c_32 => ?_)
      · refine lv_iconst (v := nI 0) hx hb d_r_keeps_39 (by decide) ?_
        exact r_zret S hr hlk hw d_r_keeps_40 (isB_n0) (⟨bI_f (fun h => by rcases h with h | h | h; exact c_12 h; exact c_22 h; exact c_32 h), hfr⟩)
      · refine lv_iconst (v := nI 1) hx hb d_r_keeps_35 (by decide) ?_
        refine lv_goto (tgt := 40) hx hb d_r_keeps_36 (by decide) ?_
        exact r_zret S hr hlk hw d_r_keeps_40 (isB_n1) (⟨bI_t (by first | exact Or.inl c_12 | exact Or.inr (Or.inl c_22) | exact Or.inr (Or.inr c_32)), hfr⟩)
end
section
/-! what the machines have, without the program. T: of each key the newest stamp, value, mark -/
abbrev Tr : Type := Nat → Int32 × Int32 × Int32
def good (T : Tr) (k : Nat) (s v t : Int32) : Prop := 0 ≤ s.toInt ∧ s.toInt ≤ (T k).1.toInt ∧ (s = (T k).1 → s ≠ 0 → v = (T k).2.1 ∧ t = (T k).2.2)
def celG (T : Tr) (σ : St) (m k : Nat) : Prop := good T k (σ 5 (m * 16 + k)) (σ 6 (m * 16 + k)) (σ 7 (m * 16 + k))
def hinG (T : Tr) (σ : St) (h m k : Nat) : Prop := good T k (σ 8 ((h * 6 + m) * 16 + k)) (σ 9 ((h * 6 + m) * 16 + k)) (σ 10 ((h * 6 + m) * 16 + k))
def regG (T : Tr) (σ : St) (k : Nat) : Prop := good T k (σ 0 13) (σ 0 14) (σ 0 15)
def Dat (T : Tr) (σ : St) : Prop := (∀ m, m < 6 → ∀ k, k < 16 → celG T σ m k) ∧ (∀ h, h < 6 → ∀ m, m < 6 → ∀ k, k < 16 → hinG T σ h m k) ∧ (∀ i, isB (σ 7 i)) ∧ (∀ i, isB (σ 10 i)) ∧ isB (σ 0 15)
def CfL (M W ll : Nat) (σ : St) : Prop := σ 0 0 = nI M ∧ σ 0 1 = nI W ∧ Lay σ (layR M 24) ∧ σ 0 20 = nI ll
def Cf (M W : Nat) (σ : St) : Prop := ∃ ll, ll ≤ 30 ∧ CfL M W ll σ
def hold (T : Tr) (σ : St) (m k : Nat) : Prop := σ 5 (m * 16 + k) = (T k).1
def Mono (T : Tr) (σ σ' : St) : Prop := ∀ m, m < 6 → ∀ k, k < 16 → hold T σ m k → hold T σ' m k
theorem Mono.rf {T : Tr} {σ : St} : Mono T σ σ := fun _ _ _ _ h => h
theorem Mono.tr {T : Tr} {σ σ' σ'' : St} (h : Mono T σ σ') (h2 : Mono T σ' σ'') : Mono T σ σ'' := fun m hm k hk q => h2 m hm k hk (h m hm k hk q)
theorem Mono.of5 {T : Tr} {σ σ' : St} (h : σ' 5 = σ 5) : Mono T σ σ' := fun m hm k hk q => by unfold hold at *; rw [h]; exact q
theorem good_0 {T : Tr} {k : Nat} {v t : Int32} (h : 0 ≤ (T k).1.toInt) : good T k (nI 0) v t := ⟨by decide, h, fun _ h => absurd rfl h⟩
theorem Lay.congr {σ σ' : St} {r : Rg} (h : Lay σ r) (e2 : σ' 0 2 = σ 0 2) (e3 : σ' 3 = σ 3) (e4 : σ' 4 = σ 4) : Lay σ' r := by
  unfold Lay at *
  rw [e2, e3, e4]; exact h
theorem CfL.congr {M W ll : Nat} {σ σ' : St} (h : CfL M W ll σ) (e0 : σ' 0 0 = σ 0 0) (e1 : σ' 0 1 = σ 0 1) (e2 : σ' 0 2 = σ 0 2) (e3 : σ' 3 = σ 3) (e4 : σ' 4 = σ 4) (e5 : σ' 0 20 = σ 0 20) : CfL M W ll σ' :=
  ⟨e0.trans h.1, e1.trans h.2.1, h.2.2.1.congr e2 e3 e4, e5.trans h.2.2.2⟩
theorem Dat.congr {T : Tr} {σ σ' : St} (h : Dat T σ) (e5 : σ' 5 = σ 5) (e6 : σ' 6 = σ 6) (e7 : σ' 7 = σ 7) (e8 : σ' 8 = σ 8) (e9 : σ' 9 = σ 9) (e10 : σ' 10 = σ 10) (hB : isB (σ' 0 15)) : Dat T σ' := by
  obtain ⟨h1, h2, h3, h4, -⟩ := h
  refine ⟨fun m hm k hk => ?_, fun h' a m hm k hk => ?_, fun i => by rw [e7]; exact h3 i, fun i => by rw [e10]; exact h4 i, hB⟩
  · unfold celG; rw [e5, e6, e7]; exact h1 m hm k hk
  · unfold hinG; rw [e8, e9, e10]; exact h2 h' a m hm k hk
/-! store -/
theorem stF_o {σ : St} {m k x : Nat} (h5 : x ≠ 5) (h6 : x ≠ 6) (h7 : x ≠ 7) : stF σ m k x = σ x := by
  unfold stF; split
  · rw [up2_g h7, up2_g h6, up2_g h5]
  · rfl
theorem stF_n {σ : St} {m k x y : Nat} (h : y ≠ m * 16 + k) : stF σ m k x y = σ x y := by
  unfold stF; split
  · rw [up2_n h, up2_n h, up2_n h]
  · rfl
theorem stF_dat {T : Tr} {σ : St} {m k : Nat} (hD : Dat T σ) (hr : regG T σ k) (hm : m < 6) (hk : k < 16) : Dat T (stF σ m k) := by
  obtain ⟨h1, h2, h3, h4, h5⟩ := hD
  refine ⟨fun m' hm' k' hk' => ?_, fun h' a m' b k' c => ?_, fun i => ?_, fun i => ?_, ?_⟩
  · by_cases q : m' * 16 + k' = m * 16 + k
    · have e1 : m' = m := by omega
      have e2 : k' = k := by omega
      subst e1; subst e2
      unfold celG stF
      split
      · simp [up2_ap]; exact hr
      · exact h1 m' hm' k' hk'
    · unfold celG; rw [stF_n q, stF_n q, stF_n q]; exact h1 m' hm' k' hk'
  · unfold hinG; rw [stF_o (by decide) (by decide) (by decide), stF_o (by decide) (by decide) (by decide), stF_o (by decide) (by decide) (by decide)]; exact h2 h' a m' b k' c
  · by_cases q : i = m * 16 + k
    · subst q
      unfold stF; split
      · simp [up2_ap]; exact h5
      · exact h3 _
    · rw [stF_n q]; exact h3 i
  · rw [stF_o (by decide) (by decide) (by decide)]; exact h4 i
  · rw [stF_o (by decide) (by decide) (by decide)]; exact h5
theorem stF_mono {T : Tr} {σ : St} {m k : Nat} (hr : regG T σ k) (hk : k < 16) : Mono T σ (stF σ m k) := by
  intro m' hm' k' hk' h
  unfold hold at *
  by_cases q : m' * 16 + k' = m * 16 + k
  · have e1 : m' = m := by omega
    have e2 : k' = k := by omega
    subst e1; subst e2
    unfold stF; split
    · next z =>
      have := hr.2.1
      rw [Int32.lt_iff_toInt_lt, h] at z
      omega
    · exact h
  · rw [stF_n q]; exact h
theorem stF_hold {T : Tr} {σ : St} {m k : Nat} (hD : Dat T σ) (hn : σ 0 13 = (T k).1) (hm : m < 6) (hk : k < 16) : hold T (stF σ m k) m k := by
  unfold hold stF
  split
  · simp [up2_ap]; exact hn
  · next z =>
    rw [Int32.lt_iff_toInt_lt, hn] at z
    have := (hD.1 m hm k hk).2.1
    exact Int32.toInt_inj.mp (by omega)
/-- what a machine has grows -/
theorem stF_ge {σ : St} {m k : Nat} : (σ 5 (m * 16 + k)).toInt ≤ (stF σ m k 5 (m * 16 + k)).toInt ∧ (σ 0 13).toInt ≤ (stF σ m k 5 (m * 16 + k)).toInt := by
  unfold stF; split
  · next z => rw [Int32.lt_iff_toInt_lt] at z; simp [up2_ap]; omega
  · next z => rw [Int32.lt_iff_toInt_lt] at z; omega
/-! hear -/
theorem hrF_o {σ : St} {m k x : Nat} (h : x ≠ 0) : hrF σ m k x = σ x := by
  unfold hrF; split
  · rw [up2_g h, up2_g h, up2_g h]
  · rfl
theorem hrF_f {σ : St} {m k y : Nat} (h1 : y ≠ 13) (h2 : y ≠ 14) (h3 : y ≠ 15) : hrF σ m k 0 y = σ 0 y := by
  unfold hrF; split
  · rw [up2_n h3, up2_n h2, up2_n h1]
  · rfl
theorem hrF_reg {T : Tr} {σ : St} {m k : Nat} (hD : Dat T σ) (hr : regG T σ k) (hm : m < 6) (hk : k < 16) : regG T (hrF σ m k) k := by
  unfold regG hrF; split
  · simp [up2_ap]; exact hD.1 m hm k hk
  · exact hr
theorem hrF_ge {σ : St} {m k : Nat} : (σ 0 13).toInt ≤ (hrF σ m k 0 13).toInt ∧ (σ 5 (m * 16 + k)).toInt ≤ (hrF σ m k 0 13).toInt := by
  unfold hrF; split
  · next z => rw [Int32.lt_iff_toInt_lt] at z; simp [up2_ap]; omega
  · next z => rw [Int32.lt_iff_toInt_lt] at z; omega
theorem hrF_dat {T : Tr} {σ : St} {m k : Nat} (hD : Dat T σ) : Dat T (hrF σ m k) := by
  refine hD.congr (hrF_o (by decide)) (hrF_o (by decide)) (hrF_o (by decide)) (hrF_o (by decide)) (hrF_o (by decide)) (hrF_o (by decide)) ?_
  unfold hrF; split
  · simp [up2_ap]; exact hD.2.2.1 _
  · exact hD.2.2.2.2
/-! erase, hint -/
theorem erF_o {σ : St} {m k x : Nat} (h5 : x ≠ 5) (h6 : x ≠ 6) (h7 : x ≠ 7) : erF σ m k x = σ x := by
  unfold erF; rw [up2_g h7, up2_g h6, up2_g h5]
theorem erF_n {σ : St} {m k x y : Nat} (h : y ≠ m * 16 + k) : erF σ m k x y = σ x y := by
  unfold erF; rw [up2_n h, up2_n h, up2_n h]
theorem erF_dat {T : Tr} {σ : St} {m k : Nat} (hD : Dat T σ) (hm : m < 6) (hk : k < 16) : Dat T (erF σ m k) := by
  obtain ⟨h1, h2, h3, h4, h5⟩ := hD
  refine ⟨fun m' hm' k' hk' => ?_, fun h' a m' b k' c => ?_, fun i => ?_, fun i => ?_, ?_⟩
  · by_cases q : m' * 16 + k' = m * 16 + k
    · have e1 : m' = m := by omega
      have e2 : k' = k := by omega
      subst e1; subst e2
      have h0 := (h1 m' hm' k' hk')
      unfold celG erF
      simp only [up2_ap]
      simp
      exact good_0 (by have := h0.1; have := h0.2.1; omega)
    · unfold celG; rw [erF_n q, erF_n q, erF_n q]; exact h1 m' hm' k' hk'
  · unfold hinG; rw [erF_o (by decide) (by decide) (by decide), erF_o (by decide) (by decide) (by decide), erF_o (by decide) (by decide) (by decide)]; exact h2 h' a m' b k' c
  · by_cases q : i = m * 16 + k
    · subst q; unfold erF; rw [up2_s]; exact isB_n0
    · rw [erF_n q]; exact h3 i
  · rw [erF_o (by decide) (by decide) (by decide)]; exact h4 i
  · rw [erF_o (by decide) (by decide) (by decide)]; exact h5
theorem hnF_o {σ : St} {h m k x : Nat} (h5 : x ≠ 8) (h6 : x ≠ 9) (h7 : x ≠ 10) : hnF σ h m k x = σ x := by
  unfold hnF; split
  · rw [up2_g h7, up2_g h6, up2_g h5]
  · rfl
theorem hnF_n {σ : St} {h m k x y : Nat} (q : y ≠ (h * 6 + m) * 16 + k) : hnF σ h m k x y = σ x y := by
  unfold hnF; split
  · rw [up2_n q, up2_n q, up2_n q]
  · rfl
theorem hnF_dat {T : Tr} {σ : St} {h m k : Nat} (hD : Dat T σ) (hr : regG T σ k) (hh : h < 6) (hm : m < 6) (hk : k < 16) : Dat T (hnF σ h m k) := by
  obtain ⟨h1, h2, h3, h4, h5⟩ := hD
  refine ⟨fun m' hm' k' hk' => ?_, fun h' a m' b k' c => ?_, fun i => ?_, fun i => ?_, ?_⟩
  · unfold celG; rw [hnF_o (by decide) (by decide) (by decide), hnF_o (by decide) (by decide) (by decide), hnF_o (by decide) (by decide) (by decide)]; exact h1 m' hm' k' hk'
  · by_cases q : (h' * 6 + m') * 16 + k' = (h * 6 + m) * 16 + k
    · have e1 : h' = h := by omega
      have e2 : m' = m := by omega
      have e3 : k' = k := by omega
      subst e1; subst e2; subst e3
      unfold hinG hnF
      split
      · simp [up2_ap]; exact hr
      · exact h2 h' a m' b k' c
    · unfold hinG; rw [hnF_n q, hnF_n q, hnF_n q]; exact h2 h' a m' b k' c
  · rw [hnF_o (by decide) (by decide) (by decide)]; exact h3 i
  · by_cases q : i = (h * 6 + m) * 16 + k
    · subst q
      unfold hnF; split
      · simp [up2_ap]; exact h5
      · exact h4 _
    · rw [hnF_n q]; exact h4 i
  · rw [hnF_o (by decide) (by decide) (by decide)]; exact h5
/-! messages -/
theorem ct_g {σ σ' : St} {r : Int32} (h : ctP σ r σ') {x : Nat} (hx : x ≠ 0) : σ' x = σ x := funext fun y => h.2.1 x y (fun q => hx q.1)
theorem ct_f {σ σ' : St} {r : Int32} (h : ctP σ r σ') {y : Nat} (h1 : y ≠ 19) (h2 : y ≠ 20) : σ' 0 y = σ 0 y := h.2.1 0 y (fun q => q.2.elim h1 h2)
theorem CfL.ct {M W ll : Nat} {σ σ' : St} {r : Int32} (hc : CfL M W ll σ) (hl : ll ≤ 30) (h : ctP σ r σ') : ∃ l2, l2 ≤ ll ∧ CfL M W l2 σ' ∧ (r = 0 → l2 < ll) := by
  obtain ⟨l2, q1, q2, q3⟩ := h.2.2 ll hl hc.2.2.2
  exact ⟨l2, q1, ⟨(ct_f h (by decide) (by decide)).trans hc.1, (ct_f h (by decide) (by decide)).trans hc.2.1, hc.2.2.1.congr (ct_f h (by decide) (by decide)) (ct_g h (by decide)) (ct_g h (by decide)), q2⟩, q3⟩
theorem Dat.ct {T : Tr} {σ σ' : St} {r : Int32} (hD : Dat T σ) (h : ctP σ r σ') : Dat T σ' :=
  hD.congr (ct_g h (by decide)) (ct_g h (by decide)) (ct_g h (by decide)) (ct_g h (by decide)) (ct_g h (by decide)) (ct_g h (by decide)) (by rw [ct_f h (by decide) (by decide)]; exact hD.2.2.2.2)
theorem regG.ct {T : Tr} {k : Nat} {σ σ' : St} {r : Int32} (hD : regG T σ k) (h : ctP σ r σ') : regG T σ' k := by
  unfold regG; rw [ct_f h (by decide) (by decide), ct_f h (by decide) (by decide), ct_f h (by decide) (by decide)]; exact hD
/-- a key at work: the tables, the data, the newest heard, its three machines, who has answered -/
def Wk (M W : Nat) (T : Tr) (k ll a : Nat) (σ : St) : Prop := CfL M W ll σ ∧ Dat T σ ∧ regG T σ k ∧ (∀ i, i < 3 → σ 11 i = nI (kp M k i)) ∧ σ 0 12 = nI a
theorem Wk.ct {M W : Nat} {T : Tr} {k ll a : Nat} {σ σ' : St} {r : Int32} (h : Wk M W T k ll a σ) (hl : ll ≤ 30) (hc : ctP σ r σ') : ∃ l2, l2 ≤ ll ∧ (r = 0 → l2 < ll) ∧ Wk M W T k l2 a σ' ∧ σ' 5 = σ 5 ∧ σ' 0 13 = σ 0 13 := by
  obtain ⟨h1, h2, h3, h4, h5⟩ := h
  obtain ⟨l2, q1, q2, q3⟩ := h1.ct hl hc
  exact ⟨l2, q1, q3, ⟨q2, h2.ct hc, h3.ct hc, fun i hi => by rw [ct_g hc (by decide)]; exact h4 i hi, (ct_f hc (by decide) (by decide)).trans h5⟩, ct_g hc (by decide), ct_f hc (by decide) (by decide)⟩
theorem Wk.ans {M W : Nat} {T : Tr} {k ll a : Nat} {σ : St} (h : Wk M W T k ll a σ) (b : Nat) : Wk M W T k ll b (up2 σ 0 12 (nI b)) ∧ (up2 σ 0 12 (nI b)) 5 = σ 5 ∧ (up2 σ 0 12 (nI b)) 0 13 = σ 0 13 := by
  obtain ⟨h1, h2, h3, h4, h5⟩ := h
  exact ⟨⟨h1.congr rfl rfl rfl rfl rfl rfl, h2.congr rfl rfl rfl rfl rfl rfl h2.2.2.2.2, h3, h4, up2_s _ _ _ _⟩, rfl, rfl⟩
theorem Wk.hear {M W : Nat} {T : Tr} {k ll a : Nat} {σ : St} (h : Wk M W T k ll a σ) {m : Nat} (hm : m < 6) (hk : k < 16) : Wk M W T k ll a (hrF σ m k) := by
  obtain ⟨h1, h2, h3, h4, h5⟩ := h
  refine ⟨h1.congr (hrF_f (by decide) (by decide) (by decide)) (hrF_f (by decide) (by decide) (by decide)) (hrF_f (by decide) (by decide) (by decide)) (hrF_o (by decide)) (hrF_o (by decide)) (hrF_f (by decide) (by decide) (by decide)), hrF_dat h2, hrF_reg h2 h3 hm hk, fun i hi => ?_, ?_⟩
  · rw [hrF_o (by decide)]; exact h4 i hi
  · rw [hrF_f (by decide) (by decide) (by decide)]; exact h5
theorem Wk.store {M W : Nat} {T : Tr} {k ll a : Nat} {σ : St} (h : Wk M W T k ll a σ) {m : Nat} (hm : m < 6) (hk : k < 16) : Wk M W T k ll a (stF σ m k) ∧ Mono T σ (stF σ m k) ∧ (stF σ m k) 0 13 = σ 0 13 := by
  obtain ⟨h1, h2, h3, h4, h5⟩ := h
  have e : ∀ {x : Nat}, x ≠ 5 → x ≠ 6 → x ≠ 7 → stF σ m k x = σ x := fun a b c => stF_o a b c
  refine ⟨⟨h1.congr ?_ ?_ ?_ (e (by decide) (by decide) (by decide)) (e (by decide) (by decide) (by decide)) ?_, stF_dat h2 h3 hm hk, ?_, fun i hi => ?_, ?_⟩, stF_mono h3 hk, ?_⟩
  · rw [e (by decide) (by decide) (by decide)]
  · rw [e (by decide) (by decide) (by decide)]
  · rw [e (by decide) (by decide) (by decide)]
  · rw [e (by decide) (by decide) (by decide)]
  · unfold regG; rw [e (by decide) (by decide) (by decide)]; exact h3
  · rw [e (by decide) (by decide) (by decide)]; exact h4 i hi
  · rw [e (by decide) (by decide) (by decide)]; exact h5
  · rw [e (by decide) (by decide) (by decide)]
/-! two of three -/
def okW (M W : Nat) : Prop := W < 64 ∧ (∀ j, W.testBit j = true → M.testBit j = true) ∧ ∀ i j, i ≠ j → M.testBit i = true → M.testBit j = true → W.testBit i = true ∨ W.testBit j = true
def quor (M : Nat) (T : Tr) (σ : St) (k : Nat) : Prop := ∃ i, i < 3 ∧ ∃ j, j < 3 ∧ i ≠ j ∧ hold T σ (kp M k i) k ∧ hold T σ (kp M k j) k
theorem quor.mono {M : Nat} {T : Tr} {σ σ' : St} {k : Nat} (hM : okM M) (hk : k < 16) (h : quor M T σ k) (hm : Mono T σ σ') : quor M T σ' k := by
  obtain ⟨i, hi, j, hj, h1, h2, h3⟩ := h
  exact ⟨i, hi, j, hj, h1, hm _ (kp_lt hM k hi).1 k hk h2, hm _ (kp_lt hM k hj).1 k hk h3⟩
theorem or8 : ∀ a, a < 8 → ∀ i, i < 3 → nI a ||| (nI 1 <<< (nI i &&& 31)) = nI (a ||| 2 ^ i) ∧ a ||| 2 ^ i < 8 ∧ cb (a ||| 2 ^ i) 6 ≤ 3 ∧ cb a 6 ≤ cb (a ||| 2 ^ i) 6 ∧ (¬ a.testBit i = true → cb (a ||| 2 ^ i) 6 = cb a 6 + 1) ∧ ∀ j, j < 3 → (a ||| 2 ^ i).testBit j = (a.testBit j || decide (j = i)) := by decide +kernel
theorem cb8_3 : ∀ a, a < 8 → cb a 6 ≤ 3 := by decide +kernel
theorem cb8b : ∀ a, a < 8 → 2 ≤ cb a 6 → ∃ i, i < 3 ∧ ∃ j, j < 3 ∧ i ≠ j ∧ a.testBit i = true ∧ a.testBit j = true := by decide +kernel
theorem cb8a (a : Nat) (ha : a < 8) (i : Nat) (hi : i < 3) (j : Nat) (hj : j < 3) (h : 2 ≤ cb a 6 ∧ i ≠ j) : a.testBit i = true ∨ a.testBit j = true := by
  obtain ⟨x, hx, y, hy, hxy, bx, by'⟩ := cb8b a ha h.1
  have hij := h.2
  rcases (show x = i ∨ x = j ∨ y = i ∨ y = j by omega) with e | e | e | e
  · left; rw [← e]; exact bx
  · right; rw [← e]; exact bx
  · left; rw [← e]; exact by'
  · right; rw [← e]; exact by'
theorem cb8c : ∀ a, a < 8 → 3 ≤ cb a 6 → ∀ i, i < 3 → a.testBit i = true := by decide +kernel
theorem cb8d : ∀ a, a < 8 → (a.testBit 0 = true ∨ a.testBit 1 = true) → (a.testBit 0 = true ∨ a.testBit 2 = true) → (a.testBit 1 = true ∨ a.testBit 2 = true) → 2 ≤ cb a 6 := by decide +kernel
theorem cb8e : ∀ a, a < 8 → a.testBit 0 = true → a.testBit 1 = true → a.testBit 2 = true → 3 ≤ cb a 6 := by decide +kernel
theorem two_work {M W : Nat} (hM : okM M) (hW : okW M W) (k : Nat) {i j : Nat} (hi : i < 3) (hj : j < 3) (h : i ≠ j) : W.testBit (kp M k i) = true ∨ W.testBit (kp M k j) = true :=
  hW.2.2 _ _ (kp_ne hM k hi hj h) (kp_lt hM k hi).2 (kp_lt hM k hj).2
/-- when all that work have answered, two have -/
theorem enough2 {M W k a : Nat} (hM : okM M) (hW : okW M W) (ha : a < 8) (h : ∀ j, j < 3 → W.testBit (kp M k j) = true → a.testBit j = true) : 2 ≤ cb a 6 :=
  cb8d a ha ((two_work hM hW k (by decide : 0 < 3) (by decide : 1 < 3) (by decide)).imp (h 0 (by decide)) (h 1 (by decide))) ((two_work hM hW k (by decide : 0 < 3) (by decide : 2 < 3) (by decide)).imp (h 0 (by decide)) (h 2 (by decide))) ((two_work hM hW k (by decide : 1 < 3) (by decide : 2 < 3) (by decide)).imp (h 1 (by decide)) (h 2 (by decide)))
/-- what two of three have heard is the newest -/
theorem read_new {M W : Nat} {T : Tr} {k ll a : Nat} {σ σ0 : St} (hw : Wk M W T k ll a σ) (ha : a < 8) (h2 : 2 ≤ cb a 6) (hq : quor M T σ0 k) (hh : ∀ i, i < 3 → a.testBit i = true → (σ0 5 (kp M k i * 16 + k)).toInt ≤ (σ 0 13).toInt) : σ 0 13 = (T k).1 := by
  obtain ⟨i, hi, j, hj, hne, q1, q2⟩ := hq
  have hr := hw.2.2.1.2.1
  refine Int32.toInt_inj.mp ?_
  rcases cb8a a ha i hi j hj ⟨h2, hne⟩ with h | h
  · have := hh i hi h
    unfold hold at q1
    rw [q1] at this
    omega
  · have := hh j hj h
    unfold hold at q2
    rw [q2] at this
    omega
theorem good.up {T T' : Tr} {k : Nat} {s v t : Int32} (h : good T k s v t) (hlt : (T k).1.toInt < (T' k).1.toInt) : good T' k s v t :=
  ⟨h.1, by have := h.2.1; omega, fun e => absurd (congrArg Int32.toInt e) (by have := h.2.1; omega)⟩
theorem good.cg {T T' : Tr} {k : Nat} {s v t : Int32} (h : good T k s v t) (e : T' k = T k) : good T' k s v t := by unfold good at *; rw [e]; exact h
/-- a newer truth of one key -/
theorem Dat.up {T T' : Tr} {σ : St} {k : Nat} (h : Dat T σ) (hlt : (T k).1.toInt < (T' k).1.toInt) (ho : ∀ j, j ≠ k → T' j = T j) : Dat T' σ := by
  obtain ⟨h1, h2, h3, h4, h5⟩ := h
  refine ⟨fun m hm j hj => ?_, fun a ha m hm j hj => ?_, h3, h4, h5⟩
  · by_cases e : j = k
    · subst e; exact (h1 m hm j hj).up hlt
    · exact (h1 m hm j hj).cg (ho j e)
  · by_cases e : j = k
    · subst e; exact (h2 a ha m hm j hj).up hlt
    · exact (h2 a ha m hm j hj).cg (ho j e)
end
section
theorem fk_g {σ σ' : St} (h : ∀ x y, x ≠ 11 → σ' x y = σ x y) {x : Nat} (hx : x ≠ 11) : σ' x = σ x := funext fun y => h x y hx
theorem CfL.fk {M U ll : Nat} {σ σ' : St} (hc : CfL M U ll σ) (h : ∀ x y, x ≠ 11 → σ' x y = σ x y) : CfL M U ll σ' := hc.congr (h _ _ (by decide)) (h _ _ (by decide)) (h _ _ (by decide)) (fk_g h (by decide)) (fk_g h (by decide)) (h _ _ (by decide))
theorem Dat.fk {T : Tr} {σ σ' : St} (hd : Dat T σ) (h : ∀ x y, x ≠ 11 → σ' x y = σ x y) : Dat T σ' := hd.congr (fk_g h (by decide)) (fk_g h (by decide)) (fk_g h (by decide)) (fk_g h (by decide)) (fk_g h (by decide)) (fk_g h (by decide)) (by rw [h _ _ (by decide)]; exact hd.2.2.2.2)
theorem Dat.T0 {T : Tr} {σ : St} (hd : Dat T σ) {k : Nat} (hk : k < 16) : 0 ≤ (T k).1.toInt := by have h := hd.1 0 (by decide) k hk; have := h.1; have := h.2.1; omega
theorem Wk.start {M U : Nat} {T : Tr} {k ll : Nat} {σ : St} (hc : CfL M U ll σ) (hd : Dat T σ) (hk : k < 16) (h : ∀ i, i < 3 → σ 11 i = nI (kp M k i)) : Wk M U T k ll 0 (swF σ) :=
  ⟨hc.congr rfl rfl rfl rfl rfl rfl, hd.congr rfl rfl rfl rfl rfl rfl isB_n0, good_0 (hd.T0 hk), h, rfl⟩
theorem rd_hear {M k a i q : Nat} {σ0 σ σ' : St} (hh : ∀ i, i < 3 → a.testBit i = true → (σ0 5 (kp M k i * 16 + k)).toInt ≤ (σ 0 13).toInt) (h5 : σ' 5 = σ0 5) (h13 : σ' 0 13 = σ 0 13) (ha : a < 8) (hi : i < 3) (eq : q = kp M k i) :
    ∀ j, j < 3 → (a ||| 2 ^ i).testBit j = true → (σ0 5 (kp M k j * 16 + k)).toInt ≤ (hrF σ' q k 0 13).toInt := by
  intro j hj hb
  have hg := hrF_ge (σ := σ') (m := q) (k := k)
  rw [(or8 a ha i hi).2.2.2.2.2 j hj] at hb
  rw [h13] at hg
  rw [h5] at hg
  by_cases e : j = i
  · subst e; rw [← eq]; exact hg.2
  · simp [e] at hb; have := hh j hj hb; omega
/-- what a read leaves: the newest, with the key's machines found -/
def rdP (M U : Nat) (T : Tr) (k : Nat) (σ σ' : St) : Prop := Cf M U σ' ∧ Dat T σ' ∧ Mono T σ σ' ∧ σ' 0 13 = (T k).1 ∧ regG T σ' k ∧ ∀ i, i < 3 → σ' 11 i = nI (kp M k i)

set_option maxHeartbeats 4000000 in
set_option maxRecDepth 100000 in
theorem c_r_readNewest (l : Launch) (c0 : Nat) (k : Nat) (M : Nat) (U : Nat) (T : Tr) (hM : okM M) (hU : okW M U) (hk : k < 16) : rCv wr tr_ l y_r_readNewest w_r_readNewest 2 49 [.int (nI c0), .int (nI k)] (fun σ => Cf M U σ ∧ Dat T σ ∧ quor M T σ k) (rdP M U T k) := by
  refine rCv.mk (b := b_r_readNewest) (nL := 6) R_rr (by decide) rfl (Nat.le_of_ble_eq_true rfl) ?_
  intro D ad cs σ0 ⟨⟨ll0, hll0, hcf⟩, hdat, hqr⟩ p e s mi args below meth c A S hr hlk hw ls hl
  have hx := S.1
  have hb := S.2.1
  have hts := S.2.2.2.2
  have hown := S.2.2.2.1
  have hl : lv_has ls 6 [(0, .ref (ad 0)), (1, .int (nI c0)), (2, .int (nI k))] := hl
  refine lv_aload_n hx hb d_r_readNewest_0 rfl (lv_at hl 0 rfl) ?_
  refine lv_iload_n hx hb d_r_readNewest_1 rfl (lv_at hl 2 rfl) ?_
  refine r_callv (rest := []) S hw k_r_r_findKeepers (c_r_findKeepers l k M hM) (hcf.2.2.1) rfl rfl ⟨by decide, by decide⟩ rfl hl.1 rfl (Nat.le_of_ble_eq_true rfl) ⟨Nat.le_refl _, Nat.le_refl _⟩ d_r_readNewest_2 (fun σ1 H locs hq1 hw => ?_)
  obtain ⟨hkk, hfk⟩ := hq1
  refine lv_aload_n hx hb d_r_readNewest_5 rfl (lv_at hl 0 rfl) ?_
  refine r_callv (rest := []) S hw k_r_r_startWork (c_r_startWork l) (trivial) rfl rfl ⟨by decide, by decide⟩ rfl hl.1 rfl (Nat.le_of_ble_eq_true rfl) ⟨Nat.le_refl _, Nat.le_refl _⟩ d_r_readNewest_6 (fun σ2 H locs hq2 hw => ?_)
  rw [hq2] at hw
  have hwk := Wk.start (hcf.fk hfk) (hdat.fk hfk) hk hkk
  have h50 : (swF σ1) 5 = σ0 5 := fk_g hfk (by decide)
  refine lv_iconst (v := nI 0) hx hb d_r_readNewest_9 (by decide) ?_
  refine lv_istore_n (lv' := [(3, .int (nI 0)), (0, .ref (ad 0)), (1, .int (nI c0)), (2, .int (nI k))]) hx hb d_r_readNewest_10 rfl hl (by decide) rfl (fun ls hl => ?_)
  have L11 : ∀ (n : Nat) (rd : Nat) (ll : Nat) (a : Nat) (σ : St) (H : Heap) (locs : List Loc) (ls : Array Slot), rd + ll + 3 ≤ 33 + cb a 6 → a < 8 → cb a 6 ≤ 3 → ll ≤ 30 → Wk M U T k ll a σ → σ 5 = σ0 5 → (∀ i, i < 3 → a.testBit i = true → (σ0 5 (kp M k i * 16 + k)).toInt ≤ (σ 0 13).toInt) → 34 ≤ rd + n → rW wr tr_ D ad cs A s σ H locs → lv_has ls 6 [(0, .ref (ad 0)), (1, .int (nI c0)), (2, .int (nI k)), (3, .int (nI rd))] → W p l e { frames := 2, cells := 0, slots := 0, locals := 49 } s mi args below meth c H locs 0 0 (MQ below (va_Qv ((rdP M U T k) σ0) (rB wr tr_ D ad cs A) A) args s 0 0 A) (F0 mi 11 ls []) := by
    intro n
    induction n with
    | zero =>
      intro rd ll a σ H locs ls hrd ha hc hll hwk h5 hh hn hw hl
      omega
    | succ n ih11 =>
      intro rd ll a σ H locs ls hrd ha hc hll hwk h5 hh hn hw hl
      refine lv_iload_n hx hb d_r_readNewest_11 rfl (lv_at hl 3 rfl) ?_
      refine lv_bipush (v := nI 80) hx hb d_r_readNewest_12 (by decide) ?_
      refine ln_icmp_ge (tgt := 116) hx hb d_r_readNewest_14 (by decide) (⟨by omega, by omega⟩) (fun c_14 => absurd c_14 (by omega)) (fun c_14 => ?_)
      refine lv_aload_n hx hb d_r_readNewest_17 rfl (lv_at hl 0 rfl) ?_
      refine rg_12 S hw d_r_readNewest_18 ?_
      refine ln_top (show _ = nI a from hwk.2.2.2.2) ?_
      refine r_calls (rest := []) S k_r_r_ones (c_r_ones l a (by omega)) ⟨by decide, by decide⟩ rfl hl.1 rfl (Nat.le_of_ble_eq_true rfl) ⟨Nat.le_refl _, Nat.le_refl _⟩ d_r_readNewest_21 ?_
      refine lv_iconst (v := nI 2) hx hb d_r_readNewest_24 (by decide) ?_
      refine ln_icmp_ge (tgt := 116) hx hb d_r_readNewest_25 (by decide) (⟨by omega, by omega⟩) (fun c_25 => ?_) (fun c_25 => ?_)
      · have hnew := read_new hwk ha (by omega) hqr hh
        refine lv_iconst (v := nI 0) hx hb d_r_readNewest_116 (by decide) ?_
        refine lv_istore_n (lv' := [(3, .int (nI 0)), (0, .ref (ad 0)), (1, .int (nI c0)), (2, .int (nI k))]) hx hb d_r_readNewest_117 rfl hl (by decide) rfl (fun ls hl => ?_)
        have L118 : ∀ (n : Nat) (i : Nat) (ll3 : Nat) (σ : St) (H : Heap) (locs : List Loc) (ls : Array Slot), i ≤ 3 → 4 ≤ i + n → ll3 ≤ 30 → Wk M U T k ll3 a σ → σ 0 13 = (T k).1 → Mono T σ0 σ → rW wr tr_ D ad cs A s σ H locs → lv_has ls 6 [(0, .ref (ad 0)), (1, .int (nI c0)), (2, .int (nI k)), (3, .int (nI i))] → W p l e { frames := 2, cells := 0, slots := 0, locals := 49 } s mi args below meth c H locs 0 0 (MQ below (va_Qv ((rdP M U T k) σ0) (rB wr tr_ D ad cs A) A) args s 0 0 A) (F0 mi 118 ls []) := by
          intro n
          induction n with
          | zero =>
            intro i ll3 σ H locs ls hi hn hll3 hk3 hnew3 hmo hw hl
            omega
          | succ n ih118 =>
            intro i ll3 σ H locs ls hi hn hll3 hk3 hnew3 hmo hw hl
            refine lv_iload_n hx hb d_r_readNewest_118 rfl (lv_at hl 3 rfl) ?_
            refine lv_iconst (v := nI 3) hx hb d_r_readNewest_119 (by decide) ?_
            refine ln_icmp_ge (tgt := 181) hx hb d_r_readNewest_120 (by decide) (⟨by omega, by omega⟩) (fun c_120 => ?_) (fun c_120 => ?_)
            · exact r_vret S hr hlk hw d_r_readNewest_181 (⟨⟨ll3, hll3, hk3.1⟩, hk3.2.1, hmo, hnew3, hk3.2.2.1, hk3.2.2.2.1⟩)
            · refine lv_aload_n hx hb d_r_readNewest_123 rfl (lv_at hl 0 rfl) ?_
              refine rg_11 S hw d_r_readNewest_124 ?_
              refine lv_iload_n hx hb d_r_readNewest_127 rfl (lv_at hl 3 rfl) ?_
              refine rl_11 S hw d_r_readNewest_128 (by omega) ?_
              refine ln_top (hk3.2.2.2.1 i (by omega)) ?_
              obtain ⟨q, eq⟩ : ∃ z, z = kp M k i := ⟨_, rfl⟩
              rw [← eq]
              have hqlt : q < 6 := by rw [eq]; exact (kp_lt hM k (by omega)).1
              refine lv_istore (lv' := [(4, .int (nI q)), (0, .ref (ad 0)), (1, .int (nI c0)), (2, .int (nI k)), (3, .int (nI i))]) hx hb d_r_readNewest_129 hl (by decide) rfl (fun ls hl => ?_)
              refine lv_aload_n hx hb d_r_readNewest_131 rfl (lv_at hl 1 rfl) ?_
              refine lv_iload_n hx hb d_r_readNewest_132 rfl (lv_at hl 4 rfl) ?_
              refine r_calli (rest := []) S hw k_r_r_hasAnswered (c_r_hasAnswered l i a (by omega) (by omega)) (hk3.2.2.2.2) rfl rfl ⟨by decide, by decide⟩ rfl hl.1 rfl (Nat.le_of_ble_eq_true rfl) ⟨Nat.le_refl _, Nat.le_refl _⟩ d_r_readNewest_133 (fun r3 σ3 H locs hq3 hw => ?_)
              obtain ⟨es3, er3⟩ := hq3
              rw [es3] at hw
              refine ln_top (er3) ?_
              refine lb_if_eq (tgt := 175) hx hb d_r_readNewest_136 (by decide) (fun c_136 => ?_) (fun c_136 => ?_)
              · refine ln_iinc (lv' := [(3, .int (nI (i + 1))), (4, .int (nI q)), (0, .ref (ad 0)), (1, .int (nI c0)), (2, .int (nI k))]) hx hb d_r_readNewest_175 hl (k := 4) rfl rfl (by decide) rfl (fun ls hl => ?_)
                refine lv_goto (tgt := 118) hx hb d_r_readNewest_178 (by decide) ?_
                exact ih118 (i + 1) (ll3) σ _ _ _ (by omega) (by omega) hll3 hk3 hnew3 hmo hw (lv_sub hl [2, 3, 4, 0] rfl)
              · refine lv_aload_n hx hb d_r_readNewest_139 rfl (lv_at hl 1 rfl) ?_
                refine rg_5 S hw d_r_readNewest_140 ?_
                refine lv_iload hx hb d_r_readNewest_143 (lv_at hl 0 rfl) ?_
                refine lv_bipush (v := nI 16) hx hb d_r_readNewest_145 (by decide) ?_
                refine ln_imul hx hb d_r_readNewest_147 ?_
                refine lv_iload_n hx hb d_r_readNewest_148 rfl (lv_at hl 3 rfl) ?_
                refine ln_iadd hx hb d_r_readNewest_149 ?_
                refine rl_5 S hw d_r_readNewest_150 (by omega) ?_
                refine lv_aload_n hx hb d_r_readNewest_151 rfl (lv_at hl 1 rfl) ?_
                refine rg_13 S hw d_r_readNewest_152 ?_
                refine lv_icmp_ge (tgt := 175) hx hb d_r_readNewest_155 (by decide) (fun c_155 => ?_) (fun c_155 => ?_)
                · refine ln_iinc (lv' := [(3, .int (nI (i + 1))), (4, .int (nI q)), (0, .ref (ad 0)), (1, .int (nI c0)), (2, .int (nI k))]) hx hb d_r_readNewest_175 hl (k := 4) rfl rfl (by decide) rfl (fun ls hl => ?_)
                  refine lv_goto (tgt := 118) hx hb d_r_readNewest_178 (by decide) ?_
                  exact ih118 (i + 1) (ll3) σ _ _ _ (by omega) (by omega) hll3 hk3 hnew3 hmo hw (lv_sub hl [2, 3, 4, 0] rfl)
                · refine lv_aload_n hx hb d_r_readNewest_158 rfl (lv_at hl 1 rfl) ?_
                  refine lv_iload_n hx hb d_r_readNewest_159 rfl (lv_at hl 2 rfl) ?_
                  refine lv_iload hx hb d_r_readNewest_160 (lv_at hl 0 rfl) ?_
                  refine r_calli (rest := []) S hw k_r_r_comesThrough (c_r_comesThrough l (nI c0) (nI q)) (trivial) rfl rfl ⟨by decide, by decide⟩ rfl hl.1 rfl (Nat.le_of_ble_eq_true rfl) ⟨Nat.le_refl _, Nat.le_refl _⟩ d_r_readNewest_162 (fun r4 σ4 H locs hq4 hw => ?_)
                  obtain ⟨l4, hl4, hz4, hk4, h54, hr4⟩ := Wk.ct hk3 (by omega) hq4
                  refine lv_if_eq (tgt := 175) hx hb d_r_readNewest_165 (by decide) (fun c_165 => ?_) (fun c_165 => ?_)
                  · refine ln_iinc (lv' := [(3, .int (nI (i + 1))), (4, .int (nI q)), (0, .ref (ad 0)), (1, .int (nI c0)), (2, .int (nI k))]) hx hb d_r_readNewest_175 hl (k := 4) rfl rfl (by decide) rfl (fun ls hl => ?_)
                    refine lv_goto (tgt := 118) hx hb d_r_readNewest_178 (by decide) ?_
                    exact ih118 (i + 1) (l4) σ4 _ _ _ (by omega) (by omega) (by omega) hk4 (hr4.trans hnew3) (hmo.tr (Mono.of5 (h54.trans rfl))) hw (lv_sub hl [2, 3, 4, 0] rfl)
                  · refine lv_aload_n hx hb d_r_readNewest_168 rfl (lv_at hl 1 rfl) ?_
                    refine lv_iload hx hb d_r_readNewest_169 (lv_at hl 0 rfl) ?_
                    refine lv_iload_n hx hb d_r_readNewest_171 rfl (lv_at hl 3 rfl) ?_
                    refine r_callv (rest := []) S hw k_r_r_store (c_r_store l q k (by omega) (by omega)) (hk4.2.1.2.2.2.2) rfl rfl ⟨by decide, by decide⟩ rfl hl.1 rfl (Nat.le_of_ble_eq_true rfl) ⟨Nat.le_refl _, Nat.le_refl _⟩ d_r_readNewest_172 (fun σ5 H locs hq5 hw => ?_)
                    rw [hq5] at hw
                    refine ln_iinc (lv' := [(3, .int (nI (i + 1))), (4, .int (nI q)), (0, .ref (ad 0)), (1, .int (nI c0)), (2, .int (nI k))]) hx hb d_r_readNewest_175 hl (k := 4) rfl rfl (by decide) rfl (fun ls hl => ?_)
                    refine lv_goto (tgt := 118) hx hb d_r_readNewest_178 (by decide) ?_
                    have hs := hk4.store hqlt hk
                    exact ih118 (i + 1) (l4) (stF σ4 q k) _ _ _ (by omega) (by omega) (by omega) hs.1 (hs.2.2.trans (hr4.trans hnew3)) ((hmo.tr (Mono.of5 (h54.trans rfl))).tr hs.2.1) hw (lv_sub hl [2, 3, 4, 0] rfl)
        exact L118 4 (0) (ll) σ _ _ _ (by omega) (by omega) hll hwk hnew (Mono.of5 h5) hw (lv_sub hl [1, 2, 3, 0] rfl)
      · refine lv_iconst (v := nI 0) hx hb d_r_readNewest_28 (by decide) ?_
        refine lv_istore (lv' := [(4, .int (nI 0)), (0, .ref (ad 0)), (1, .int (nI c0)), (2, .int (nI k)), (3, .int (nI rd))]) hx hb d_r_readNewest_29 hl (by decide) rfl (fun ls hl => ?_)
        have L31 : ∀ (n : Nat) (i : Nat) (ll2 : Nat) (a2 : Nat) (σ : St) (H : Heap) (locs : List Loc) (ls : Array Slot), i ≤ 3 → 4 ≤ i + n → a2 < 8 → cb a2 6 ≤ 3 → ll2 ≤ ll → Wk M U T k ll2 a2 σ → σ 5 = σ0 5 → (∀ i, i < 3 → a2.testBit i = true → (σ0 5 (kp M k i * 16 + k)).toInt ≤ (σ 0 13).toInt) → cb a 6 ≤ cb a2 6 → (ll2 + cb a 6 < ll + cb a2 6 ∨ ∀ j, j < i → U.testBit (kp M k j) = true → a2.testBit j = true) → rW wr tr_ D ad cs A s σ H locs → lv_has ls 6 [(0, .ref (ad 0)), (1, .int (nI c0)), (2, .int (nI k)), (3, .int (nI rd)), (4, .int (nI i))] → W p l e { frames := 2, cells := 0, slots := 0, locals := 49 } s mi args below meth c H locs 0 0 (MQ below (va_Qv ((rdP M U T k) σ0) (rB wr tr_ D ad cs A) A) args s 0 0 A) (F0 mi 31 ls []) := by
          intro n
          induction n with
          | zero =>
            intro i ll2 a2 σ H locs ls hi hn ha2 hc2 hl2 hk2 h52 hh2 hm2 hprog hw hl
            omega
          | succ n ih31 =>
            intro i ll2 a2 σ H locs ls hi hn ha2 hc2 hl2 hk2 h52 hh2 hm2 hprog hw hl
            refine lv_iload hx hb d_r_readNewest_31 (lv_at hl 4 rfl) ?_
            refine lv_iconst (v := nI 3) hx hb d_r_readNewest_33 (by decide) ?_
            refine ln_icmp_ge (tgt := 110) hx hb d_r_readNewest_34 (by decide) (⟨by omega, by omega⟩) (fun c_34 => ?_) (fun c_34 => ?_)
            · refine ln_iinc (lv' := [(3, .int (nI (rd + 1))), (0, .ref (ad 0)), (1, .int (nI c0)), (2, .int (nI k)), (4, .int (nI i))]) hx hb d_r_readNewest_110 hl (k := 3) rfl rfl (by decide) rfl (fun ls hl => ?_)
              refine lv_goto (tgt := 11) hx hb d_r_readNewest_113 (by decide) ?_
              have hpr : ll2 + cb a 6 < ll + cb a2 6 := by
                rcases hprog with h | h
                · exact h
                · have := enough2 hM hU ha2 (fun j hj => h j (by omega))
                  omega
              exact ih11 (rd + 1) (ll2) (a2) σ _ _ _ (by omega) ha2 hc2 (by omega) hk2 h52 hh2 (by omega) hw (lv_sub hl [1, 2, 3, 0] rfl)
            · refine lv_aload_n hx hb d_r_readNewest_37 rfl (lv_at hl 0 rfl) ?_
              refine rg_11 S hw d_r_readNewest_38 ?_
              refine lv_iload hx hb d_r_readNewest_41 (lv_at hl 4 rfl) ?_
              refine rl_11 S hw d_r_readNewest_43 (by omega) ?_
              refine ln_top (hk2.2.2.2.1 i (by omega)) ?_
              obtain ⟨q, eq⟩ : ∃ z, z = kp M k i := ⟨_, rfl⟩
              rw [← eq]
              have hqlt : q < 6 := by rw [eq]; exact (kp_lt hM k (by omega)).1
              refine lv_istore (lv' := [(5, .int (nI q)), (0, .ref (ad 0)), (1, .int (nI c0)), (2, .int (nI k)), (3, .int (nI rd)), (4, .int (nI i))]) hx hb d_r_readNewest_44 hl (by decide) rfl (fun ls hl => ?_)
              refine lv_aload_n hx hb d_r_readNewest_46 rfl (lv_at hl 1 rfl) ?_
              refine lv_iload hx hb d_r_readNewest_47 (lv_at hl 0 rfl) ?_
              refine r_calli (rest := []) S hw k_r_r_isWorking (c_r_isWorking l (nI q) U hU.1) (hk2.1.2.1) rfl rfl ⟨by decide, by decide⟩ rfl hl.1 rfl (Nat.le_of_ble_eq_true rfl) ⟨Nat.le_refl _, Nat.le_refl _⟩ d_r_readNewest_49 (fun r6 σ6 H locs hq6 hw => ?_)
              obtain ⟨es6, er6⟩ := hq6
              rw [es6] at hw
              refine ln_top (er6.trans (bI_congr (mem_nI (by omega)))) ?_
              refine lb_if_eq (tgt := 104) hx hb d_r_readNewest_52 (by decide) (fun c_52 => ?_) (fun c_52 => ?_)
              · refine ln_iinc (lv' := [(4, .int (nI (i + 1))), (5, .int (nI q)), (0, .ref (ad 0)), (1, .int (nI c0)), (2, .int (nI k)), (3, .int (nI rd))]) hx hb d_r_readNewest_104 hl (k := 5) rfl rfl (by decide) rfl (fun ls hl => ?_)
                refine lv_goto (tgt := 31) hx hb d_r_readNewest_107 (by decide) ?_
                exact ih31 (i + 1) (ll2) (a2) σ _ _ _ (by omega) (by omega) ha2 hc2 hl2 hk2 h52 hh2 hm2 (hprog.imp id (fun h j hj hw => by
                      by_cases e : j = i
                      · subst e; rw [← eq] at hw; first | exact absurd hw c_52 | exact c_61
                      · exact h j (by omega) hw)) hw (lv_sub hl [2, 3, 4, 5, 0] rfl)
              · refine lv_aload_n hx hb d_r_readNewest_55 rfl (lv_at hl 1 rfl) ?_
                refine lv_iload hx hb d_r_readNewest_56 (lv_at hl 5 rfl) ?_
                refine r_calli (rest := []) S hw k_r_r_hasAnswered (c_r_hasAnswered l i a2 (by omega) (by omega)) (hk2.2.2.2.2) rfl rfl ⟨by decide, by decide⟩ rfl hl.1 rfl (Nat.le_of_ble_eq_true rfl) ⟨Nat.le_refl _, Nat.le_refl _⟩ d_r_readNewest_58 (fun r7 σ7 H locs hq7 hw => ?_)
                obtain ⟨es7, er7⟩ := hq7
                rw [es7] at hw
                refine ln_top (er7) ?_
                refine lb_if_ne (tgt := 104) hx hb d_r_readNewest_61 (by decide) (fun c_61 => ?_) (fun c_61 => ?_)
                · refine ln_iinc (lv' := [(4, .int (nI (i + 1))), (5, .int (nI q)), (0, .ref (ad 0)), (1, .int (nI c0)), (2, .int (nI k)), (3, .int (nI rd))]) hx hb d_r_readNewest_104 hl (k := 5) rfl rfl (by decide) rfl (fun ls hl => ?_)
                  refine lv_goto (tgt := 31) hx hb d_r_readNewest_107 (by decide) ?_
                  exact ih31 (i + 1) (ll2) (a2) σ _ _ _ (by omega) (by omega) ha2 hc2 hl2 hk2 h52 hh2 hm2 (hprog.imp id (fun h j hj hw => by
                        by_cases e : j = i
                        · subst e; rw [← eq] at hw; first | exact absurd hw c_52 | exact c_61
                        · exact h j (by omega) hw)) hw (lv_sub hl [2, 3, 4, 5, 0] rfl)
                · refine lv_aload_n hx hb d_r_readNewest_64 rfl (lv_at hl 1 rfl) ?_
                  refine lv_iload_n hx hb d_r_readNewest_65 rfl (lv_at hl 2 rfl) ?_
                  refine lv_iload hx hb d_r_readNewest_66 (lv_at hl 0 rfl) ?_
                  refine r_calli (rest := []) S hw k_r_r_comesThrough (c_r_comesThrough l (nI c0) (nI q)) (trivial) rfl rfl ⟨by decide, by decide⟩ rfl hl.1 rfl (Nat.le_of_ble_eq_true rfl) ⟨Nat.le_refl _, Nat.le_refl _⟩ d_r_readNewest_68 (fun r8 σ8 H locs hq8 hw => ?_)
                  obtain ⟨l8, hl8, hz8, hk8, h58, hr8⟩ := Wk.ct hk2 (by omega) hq8
                  refine lv_if_eq (tgt := 104) hx hb d_r_readNewest_71 (by decide) (fun c_71 => ?_) (fun c_71 => ?_)
                  · refine ln_iinc (lv' := [(4, .int (nI (i + 1))), (5, .int (nI q)), (0, .ref (ad 0)), (1, .int (nI c0)), (2, .int (nI k)), (3, .int (nI rd))]) hx hb d_r_readNewest_104 hl (k := 5) rfl rfl (by decide) rfl (fun ls hl => ?_)
                    refine lv_goto (tgt := 31) hx hb d_r_readNewest_107 (by decide) ?_
                    exact ih31 (i + 1) (l8) (a2) σ8 _ _ _ (by omega) (by omega) ha2 hc2 (by omega) hk8 (h58.trans h52) (fun j hj hb => by rw [(hr8.trans rfl)]; exact hh2 j hj hb) hm2 (Or.inl (by have := hz8 c_71; omega)) hw (lv_sub hl [2, 3, 4, 5, 0] rfl)
                  · refine lv_aload_n hx hb d_r_readNewest_74 rfl (lv_at hl 1 rfl) ?_
                    refine lv_iload hx hb d_r_readNewest_75 (lv_at hl 0 rfl) ?_
                    refine lv_iload_n hx hb d_r_readNewest_77 rfl (lv_at hl 2 rfl) ?_
                    refine r_calli (rest := []) S hw k_r_r_comesThrough (c_r_comesThrough l (nI q) (nI c0)) (trivial) rfl rfl ⟨by decide, by decide⟩ rfl hl.1 rfl (Nat.le_of_ble_eq_true rfl) ⟨Nat.le_refl _, Nat.le_refl _⟩ d_r_readNewest_78 (fun r9 σ9 H locs hq9 hw => ?_)
                    obtain ⟨l9, hl9, hz9, hk9, h59, hr9⟩ := Wk.ct hk8 (by omega) hq9
                    refine lv_if_eq (tgt := 104) hx hb d_r_readNewest_81 (by decide) (fun c_81 => ?_) (fun c_81 => ?_)
                    · refine ln_iinc (lv' := [(4, .int (nI (i + 1))), (5, .int (nI q)), (0, .ref (ad 0)), (1, .int (nI c0)), (2, .int (nI k)), (3, .int (nI rd))]) hx hb d_r_readNewest_104 hl (k := 5) rfl rfl (by decide) rfl (fun ls hl => ?_)
                      refine lv_goto (tgt := 31) hx hb d_r_readNewest_107 (by decide) ?_
                      exact ih31 (i + 1) (l9) (a2) σ9 _ _ _ (by omega) (by omega) ha2 hc2 (by omega) hk9 (h59.trans (h58.trans h52)) (fun j hj hb => by rw [(hr9.trans (hr8.trans rfl))]; exact hh2 j hj hb) hm2 (Or.inl (by have := hz9 c_81; omega)) hw (lv_sub hl [2, 3, 4, 5, 0] rfl)
                    · refine lv_aload_n hx hb d_r_readNewest_84 rfl (lv_at hl 1 rfl) ?_
                      refine lv_dup hx hb d_r_readNewest_85 rfl ?_
                      refine rg_12 S hw d_r_readNewest_86 ?_
                      refine ln_top (show _ = nI a2 from hk9.2.2.2.2) ?_
                      refine lv_iconst (v := nI 1) hx hb d_r_readNewest_89 (by decide) ?_
                      refine lv_iload hx hb d_r_readNewest_90 (lv_at hl 5 rfl) ?_
                      refine lv_ishl hx hb d_r_readNewest_92 ?_
                      refine lv_ior hx hb d_r_readNewest_93 ?_
                      refine ln_top (or8 a2 ha2 i (by omega)).1 ?_
                      refine rp_12 S hw d_r_readNewest_94 (fun H locs hw => ?_)
                      refine lv_aload_n hx hb d_r_readNewest_97 rfl (lv_at hl 1 rfl) ?_
                      refine lv_iload hx hb d_r_readNewest_98 (lv_at hl 0 rfl) ?_
                      refine lv_iload_n hx hb d_r_readNewest_100 rfl (lv_at hl 3 rfl) ?_
                      refine r_callv (rest := []) S hw k_r_r_hear (c_r_hear l q k (by omega) (by omega)) ((Wk.ans hk9 (a2 ||| 2 ^ i)).1.2.1.2.2.1 _) rfl rfl ⟨by decide, by decide⟩ rfl hl.1 rfl (Nat.le_of_ble_eq_true rfl) ⟨Nat.le_refl _, Nat.le_refl _⟩ d_r_readNewest_101 (fun σ10 H locs hq10 hw => ?_)
                      rw [hq10] at hw
                      refine ln_iinc (lv' := [(4, .int (nI (i + 1))), (5, .int (nI q)), (0, .ref (ad 0)), (1, .int (nI c0)), (2, .int (nI k)), (3, .int (nI rd))]) hx hb d_r_readNewest_104 hl (k := 5) rfl rfl (by decide) rfl (fun ls hl => ?_)
                      refine lv_goto (tgt := 31) hx hb d_r_readNewest_107 (by decide) ?_
                      have ho := or8 a2 ha2 i (by omega)
                      exact ih31 (i + 1) (l9) (a2 ||| 2 ^ i) (hrF (up2 σ9 0 12 (nI (a2 ||| 2 ^ i))) q k) _ _ _ (by omega) (by omega) ho.2.1 ho.2.2.1 (by omega) ((Wk.ans hk9 _).1.hear hqlt hk) ((hrF_o (by decide)).trans (h59.trans (h58.trans h52))) (rd_hear hh2 (h59.trans (h58.trans h52)) (hr9.trans (hr8.trans rfl)) ha2 (by omega) eq) (by omega) (Or.inl (by have := ho.2.2.2.2.1 c_61; omega)) hw (lv_sub hl [2, 3, 4, 5, 0] rfl)
        exact L31 4 (0) (ll) (a) σ _ _ _ (by omega) (by omega) ha hc (Nat.le_refl _) hwk h5 hh (Nat.le_refl _) (Or.inr (fun j hj => absurd hj (Nat.not_lt_zero j))) hw (lv_sub hl [1, 2, 3, 4, 0] rfl)
  exact L11 34 (0) (ll0) (0) (swF σ1) _ _ _ (by have h0 : cb 0 6 = 0 := rfl; omega) (by decide) (by decide) hll0 hwk h50 (fun i _ hb => absurd hb (by simp)) (by omega) hw (lv_sub hl [1, 2, 3, 0] rfl)
end
section
theorem Wk.hint {M U : Nat} {T : Tr} {k ll a : Nat} {σ : St} (h : Wk M U T k ll a σ) {x m : Nat} (hx : x < 6) (hm : m < 6) (hk : k < 16) : Wk M U T k ll a (hnF σ x m k) ∧ (hnF σ x m k) 5 = σ 5 ∧ (hnF σ x m k) 0 13 = σ 0 13 := by
  obtain ⟨h1, h2, h3, h4, h5⟩ := h
  have e : ∀ {y : Nat}, y ≠ 8 → y ≠ 9 → y ≠ 10 → hnF σ x m k y = σ y := fun a b c => hnF_o a b c
  have e0 : hnF σ x m k 0 = σ 0 := e (by decide) (by decide) (by decide)
  refine ⟨⟨h1.congr ?_ ?_ ?_ (e (by decide) (by decide) (by decide)) (e (by decide) (by decide) (by decide)) ?_, hnF_dat h2 h3 hx hm hk, ?_, fun i hi => ?_, ?_⟩, e (by decide) (by decide) (by decide), ?_⟩
  · rw [e0]
  · rw [e0]
  · rw [e0]
  · rw [e0]
  · unfold regG; rw [e0]; exact h3
  · rw [e (by decide) (by decide) (by decide)]; exact h4 i hi
  · rw [e0]; exact h5
  · rw [e0]
theorem or80 : ∀ a, a < 8 → nI a ||| nI 0 = nI a := by decide +kernel
theorem wr_hh {M k a i q : Nat} {T : Tr} {σ σ' : St} (hM : okM M) (hk : k < 16) (hh : ∀ i, i < 3 → a.testBit i = true → hold T σ (kp M k i) k) (hmo : Mono T σ σ') (hst : hold T σ' q k) (ha : a < 8) (hi : i < 3) (eq : q = kp M k i) :
    ∀ j, j < 3 → (a ||| 2 ^ i).testBit j = true → hold T σ' (kp M k j) k := by
  intro j hj hb
  rw [(or8 a ha i hi).2.2.2.2.2 j hj] at hb
  by_cases e : j = i
  · subst e; rw [← eq]; exact hst
  · simp [e] at hb; exact hmo _ (kp_lt hM k hj).1 k hk (hh j hj hb)
/-- what a write leaves: those that have confirmed have the newest -/
def wrP (M U : Nat) (T : Tr) (k E : Nat) (σ σ' : St) : Prop := Cf M U σ' ∧ Dat T σ' ∧ Mono T σ σ' ∧ ∃ a, a < 8 ∧ E ≤ cb a 6 ∧ ∀ i, i < 3 → a.testBit i = true → hold T σ' (kp M k i) k
/-- the whole state: tables, data, and of every key two of three have the newest -/
def Inv (M U : Nat) (T : Tr) (σ : St) : Prop := Cf M U σ ∧ Dat T σ ∧ ∀ k, k < 16 → quor M T σ k
def Tnew (T : Tr) (k s : Nat) (v t : Int32) : Tr := fun j => if j = k then (nI s, v, t) else T j
theorem Tnew_s (T : Tr) (k s : Nat) (v t : Int32) : Tnew T k s v t k = (nI s, v, t) := if_pos rfl
theorem Tnew_o {T : Tr} {k s j : Nat} {v t : Int32} (h : j ≠ k) : Tnew T k s v t j = T j := if_neg h
abbrev num (T : Tr) (k : Nat) : Int32 := nmF (T k).1 (T k).2.1 (T k).2.2
theorem Inv.rdpre {M U : Nat} {T : Tr} {σ : St} (h : Inv M U T σ) {k : Nat} (hk : k < 16) : Cf M U σ ∧ Dat T σ ∧ quor M T σ k := ⟨h.1, h.2.1, h.2.2 k hk⟩
theorem Inv.rd {M U : Nat} {T : Tr} {σ σ' : St} {k : Nat} (h : Inv M U T σ) (hk : k < 16) (hM : okM M) (hr : rdP M U T k σ σ') : Inv M U T σ' := ⟨hr.1, hr.2.1, fun j hj => (h.2.2 j hj).mono hM hj hr.2.2.1⟩
theorem rd_num {M U : Nat} {T : Tr} {σ σ' : St} {k : Nat} (hr : rdP M U T k σ σ') : nmF (σ' 0 13) (σ' 0 14) (σ' 0 15) = num T k := by
  obtain ⟨-, -, -, h1, h2, -⟩ := hr
  unfold nmF num nmF
  by_cases h : (T k).1 = 0
  · rw [if_pos (Or.inl (h1.trans h)), if_pos (Or.inl h)]
  · obtain ⟨e1, e2⟩ := h2.2.2 h1 (by rw [h1]; exact h)
    rw [h1, e1, e2]
theorem stamp_up {s c : Nat} (hs : s < 2 ^ 20) (hc : c < 6) : (nI s).toInt < (nI ((s / 8 + 1) * 8 + c)).toInt := by
  rw [nI_toInt (by omega), nI_toInt (by omega)]; omega
theorem ch_pre {M U : Nat} {T : Tr} {σ : St} {k s c : Nat} {v t : Int32} (h : Inv M U T σ) (hk : k < 16) (hsT : (T k).1 = nI s) (hs : s < 2 ^ 20) (hc : c < 6) (ht : isB t) (hkk : ∀ i, i < 3 → σ 11 i = nI (kp M k i)) :
    Cf M U (up2 (up2 (up2 σ 0 13 (nI ((s / 8 + 1) * 8 + c))) 0 14 v) 0 15 t) ∧ Dat (Tnew T k ((s / 8 + 1) * 8 + c) v t) (up2 (up2 (up2 σ 0 13 (nI ((s / 8 + 1) * 8 + c))) 0 14 v) 0 15 t) ∧ (up2 (up2 (up2 σ 0 13 (nI ((s / 8 + 1) * 8 + c))) 0 14 v) 0 15 t) 0 13 = (Tnew T k ((s / 8 + 1) * 8 + c) v t k).1 ∧ regG (Tnew T k ((s / 8 + 1) * 8 + c) v t) (up2 (up2 (up2 σ 0 13 (nI ((s / 8 + 1) * 8 + c))) 0 14 v) 0 15 t) k ∧ ∀ i, i < 3 → (up2 (up2 (up2 σ 0 13 (nI ((s / 8 + 1) * 8 + c))) 0 14 v) 0 15 t) 11 i = nI (kp M k i) := by
  obtain ⟨⟨ll, hl, hc'⟩, hd, -⟩ := h
  refine ⟨⟨ll, hl, hc'.congr rfl rfl rfl rfl rfl rfl⟩, (hd.up (k := k) ?_ (fun j hj => Tnew_o hj)).congr rfl rfl rfl rfl rfl rfl ht, ?_, ?_, hkk⟩
  · rw [Tnew_s, hsT]; exact stamp_up hs hc
  · rw [Tnew_s]; rfl
  · unfold regG good
    rw [Tnew_s]
    have e1 : (up2 (up2 (up2 σ 0 13 (nI ((s / 8 + 1) * 8 + c))) 0 14 v) 0 15 t) 0 13 = nI ((s / 8 + 1) * 8 + c) := rfl
    rw [e1]
    exact ⟨by rw [nI_toInt (by omega)]; omega, Int.le_refl _, fun _ _ => ⟨rfl, rfl⟩⟩
theorem ch_post {M U : Nat} {T : Tr} {σ σ1 σ' : St} {k s : Nat} {v t : Int32} (h : Inv M U T σ) (hM : okM M) (h5 : σ1 5 = σ 5) (hw : wrP M U (Tnew T k s v t) k 2 σ1 σ') : Inv M U (Tnew T k s v t) σ' := by
  obtain ⟨h1, h2, h3, a, ha, hE, hh⟩ := hw
  refine ⟨h1, h2, fun j hj => ?_⟩
  by_cases e : j = k
  · subst e
    obtain ⟨x, hx, y, hy, hne, bx, b2⟩ := cb8b a ha hE
    exact ⟨x, hx, y, hy, hne, hh x hx bx, hh y hy b2⟩
  · obtain ⟨x, hx, y, hy, hne, q1, q2⟩ := h.2.2 j hj
    have tr : ∀ m, m < 6 → hold T σ m j → hold (Tnew T k s v t) σ' m j := fun m hm q => h3 m hm j hj (by unfold hold at *; rw [h5, Tnew_o e]; exact q)
    exact ⟨x, hx, y, hy, hne, tr _ (kp_lt hM j hx).1 q1, tr _ (kp_lt hM j hy).1 q2⟩

set_option maxHeartbeats 4000000 in
set_option maxRecDepth 100000 in
theorem c_r_writeNewest (l : Launch) (c0 : Nat) (k : Nat) (E : Nat) (M : Nat) (U : Nat) (T : Tr) (hM : okM M) (hU : okW M U) (hk : k < 16) (hc0 : c0 < 6) (hE : ∀ a, a < 8 → (∀ j, j < 3 → U.testBit (kp M k j) = true → a.testBit j = true) → E ≤ cb a 6) (hE3 : E ≤ 3) : rCv wr tr_ l y_r_writeNewest w_r_writeNewest 2 41 [.int (nI c0), .int (nI k), .int (nI E)] (fun σ => Cf M U σ ∧ Dat T σ ∧ σ 0 13 = (T k).1 ∧ regG T σ k ∧ ∀ i, i < 3 → σ 11 i = nI (kp M k i)) (wrP M U T k E) := by
  refine rCv.mk (b := b_r_writeNewest) (nL := 7) R_rr (by decide) rfl (Nat.le_of_ble_eq_true rfl) ?_
  intro D ad cs σ0 ⟨⟨ll0, hll0, hcf⟩, hdat, hnew0, hreg, hkk⟩ p e s mi args below meth c A S hr hlk hw ls hl
  have hx := S.1
  have hb := S.2.1
  have hts := S.2.2.2.2
  have hown := S.2.2.2.1
  have hl : lv_has ls 7 [(0, .ref (ad 0)), (1, .int (nI c0)), (2, .int (nI k)), (3, .int (nI E))] := hl
  refine lv_aload_n hx hb d_r_writeNewest_0 rfl (lv_at hl 0 rfl) ?_
  refine lv_iconst (v := nI 0) hx hb d_r_writeNewest_1 (by decide) ?_
  refine rp_12 S hw d_r_writeNewest_2 (fun H locs hw => ?_)
  have hwk : Wk M U T k ll0 0 (up2 σ0 0 12 (nI 0)) := ⟨hcf.congr rfl rfl rfl rfl rfl rfl, hdat.congr rfl rfl rfl rfl rfl rfl hdat.2.2.2.2, hreg, hkk, rfl⟩
  refine lv_iconst (v := nI 0) hx hb d_r_writeNewest_5 (by decide) ?_
  refine lv_istore (lv' := [(4, .int (nI 0)), (0, .ref (ad 0)), (1, .int (nI c0)), (2, .int (nI k)), (3, .int (nI E))]) hx hb d_r_writeNewest_6 hl (by decide) rfl (fun ls hl => ?_)
  have L8 : ∀ (n : Nat) (rd : Nat) (ll : Nat) (a : Nat) (σ : St) (H : Heap) (locs : List Loc) (ls : Array Slot), rd + ll + 3 ≤ 33 + cb a 6 → a < 8 → cb a 6 ≤ 3 → ll ≤ 30 → Wk M U T k ll a σ → σ 0 13 = (T k).1 → Mono T σ0 σ → (∀ i, i < 3 → a.testBit i = true → hold T σ (kp M k i) k) → 34 ≤ rd + n → rW wr tr_ D ad cs A s σ H locs → lv_has ls 7 [(0, .ref (ad 0)), (1, .int (nI c0)), (2, .int (nI k)), (3, .int (nI E)), (4, .int (nI rd))] → W p l e { frames := 2, cells := 0, slots := 0, locals := 41 } s mi args below meth c H locs 0 0 (MQ below (va_Qv ((wrP M U T k E) σ0) (rB wr tr_ D ad cs A) A) args s 0 0 A) (F0 mi 8 ls []) := by
    intro n
    induction n with
    | zero =>
      intro rd ll a σ H locs ls hrd ha hc hll hwk hnew hmo hh hn hw hl
      omega
    | succ n ih8 =>
      intro rd ll a σ H locs ls hrd ha hc hll hwk hnew hmo hh hn hw hl
      refine lv_iload hx hb d_r_writeNewest_8 (lv_at hl 4 rfl) ?_
      refine lv_bipush (v := nI 80) hx hb d_r_writeNewest_10 (by decide) ?_
      refine ln_icmp_ge (tgt := 118) hx hb d_r_writeNewest_12 (by decide) (⟨by omega, by omega⟩) (fun c_12 => absurd c_12 (by omega)) (fun c_12 => ?_)
      refine lv_aload_n hx hb d_r_writeNewest_15 rfl (lv_at hl 0 rfl) ?_
      refine rg_12 S hw d_r_writeNewest_16 ?_
      refine ln_top (show _ = nI a from hwk.2.2.2.2) ?_
      refine r_calls (rest := []) S k_r_r_ones (c_r_ones l a (by omega)) ⟨by decide, by decide⟩ rfl hl.1 rfl (Nat.le_of_ble_eq_true rfl) ⟨Nat.le_refl _, Nat.le_refl _⟩ d_r_writeNewest_19 ?_
      refine lv_iload_n hx hb d_r_writeNewest_22 rfl (lv_at hl 3 rfl) ?_
      refine ln_icmp_ge (tgt := 118) hx hb d_r_writeNewest_23 (by decide) (⟨by omega, by omega⟩) (fun c_23 => ?_) (fun c_23 => ?_)
      · refine lv_iconst (v := nI 0) hx hb d_r_writeNewest_118 (by decide) ?_
        refine lv_istore (lv' := [(4, .int (nI 0)), (0, .ref (ad 0)), (1, .int (nI c0)), (2, .int (nI k)), (3, .int (nI E))]) hx hb d_r_writeNewest_119 hl (by decide) rfl (fun ls hl => ?_)
        have L121 : ∀ (n : Nat) (i : Nat) (σ : St) (H : Heap) (locs : List Loc) (ls : Array Slot), i ≤ 3 → 4 ≤ i + n → Wk M U T k ll a σ → Mono T σ0 σ → (∀ i, i < 3 → a.testBit i = true → hold T σ (kp M k i) k) → rW wr tr_ D ad cs A s σ H locs → lv_has ls 7 [(0, .ref (ad 0)), (1, .int (nI c0)), (2, .int (nI k)), (3, .int (nI E)), (4, .int (nI i))] → W p l e { frames := 2, cells := 0, slots := 0, locals := 41 } s mi args below meth c H locs 0 0 (MQ below (va_Qv ((wrP M U T k E) σ0) (rB wr tr_ D ad cs A) A) args s 0 0 A) (F0 mi 121 ls []) := by
          intro n
          induction n with
          | zero =>
            intro i σ H locs ls hi hn hk3 hmo3 hh3 hw hl
            omega
          | succ n ih121 =>
            intro i σ H locs ls hi hn hk3 hmo3 hh3 hw hl
            refine lv_iload hx hb d_r_writeNewest_121 (lv_at hl 4 rfl) ?_
            refine lv_iconst (v := nI 3) hx hb d_r_writeNewest_123 (by decide) ?_
            refine ln_icmp_ge (tgt := 160) hx hb d_r_writeNewest_124 (by decide) (⟨by omega, by omega⟩) (fun c_124 => ?_) (fun c_124 => ?_)
            · exact r_vret S hr hlk hw d_r_writeNewest_160 (⟨⟨ll, hll, hk3.1⟩, hk3.2.1, hmo3, a, ha, by omega, hh3⟩)
            · refine lv_aload_n hx hb d_r_writeNewest_127 rfl (lv_at hl 0 rfl) ?_
              refine lv_aload_n hx hb d_r_writeNewest_128 rfl (lv_at hl 0 rfl) ?_
              refine rg_11 S hw d_r_writeNewest_129 ?_
              refine lv_iload hx hb d_r_writeNewest_132 (lv_at hl 4 rfl) ?_
              refine rl_11 S hw d_r_writeNewest_134 (by omega) ?_
              refine ln_top (hk3.2.2.2.1 i (by omega)) ?_
              obtain ⟨q, eq⟩ : ∃ z, z = kp M k i := ⟨_, rfl⟩
              rw [← eq]
              have hqlt : q < 6 := by rw [eq]; exact (kp_lt hM k (by omega)).1
              refine r_calli (rest := []) S hw k_r_r_isWorking (c_r_isWorking l (nI q) U hU.1) (hk3.1.2.1) rfl rfl ⟨by decide, by decide⟩ rfl hl.1 rfl (Nat.le_of_ble_eq_true rfl) ⟨Nat.le_refl _, Nat.le_refl _⟩ d_r_writeNewest_135 (fun r1 σ1 H locs hq1 hw => ?_)
              obtain ⟨es1, er1⟩ := hq1
              rw [es1] at hw
              refine ln_top (er1.trans (bI_congr (mem_nI (by omega)))) ?_
              refine lb_if_ne (tgt := 154) hx hb d_r_writeNewest_138 (by decide) (fun c_138 => ?_) (fun c_138 => ?_)
              · refine ln_iinc (lv' := [(4, .int (nI (i + 1))), (0, .ref (ad 0)), (1, .int (nI c0)), (2, .int (nI k)), (3, .int (nI E))]) hx hb d_r_writeNewest_154 hl (k := 4) rfl rfl (by decide) rfl (fun ls hl => ?_)
                refine lv_goto (tgt := 121) hx hb d_r_writeNewest_157 (by decide) ?_
                exact ih121 (i + 1) σ _ _ _ (by omega) (by omega) hk3 hmo3 hh3 hw (lv_sub hl [1, 2, 3, 4, 0] rfl)
              · refine lv_aload_n hx hb d_r_writeNewest_141 rfl (lv_at hl 0 rfl) ?_
                refine lv_iload_n hx hb d_r_writeNewest_142 rfl (lv_at hl 1 rfl) ?_
                refine lv_aload_n hx hb d_r_writeNewest_143 rfl (lv_at hl 0 rfl) ?_
                refine rg_11 S hw d_r_writeNewest_144 ?_
                refine lv_iload hx hb d_r_writeNewest_147 (lv_at hl 4 rfl) ?_
                refine rl_11 S hw d_r_writeNewest_149 (by omega) ?_
                refine ln_top ((hk3.2.2.2.1 i (by omega)).trans (congrArg nI eq.symm)) ?_
                refine lv_iload_n hx hb d_r_writeNewest_150 rfl (lv_at hl 2 rfl) ?_
                refine r_callv (rest := []) S hw k_r_r_hint (c_r_hint l c0 q k (by omega) (by omega) (by omega)) (hk3.2.1.2.2.2.2) rfl rfl ⟨by decide, by decide⟩ rfl hl.1 rfl (Nat.le_of_ble_eq_true rfl) ⟨Nat.le_refl _, Nat.le_refl _⟩ d_r_writeNewest_151 (fun σ2 H locs hq2 hw => ?_)
                rw [hq2] at hw
                refine ln_iinc (lv' := [(4, .int (nI (i + 1))), (0, .ref (ad 0)), (1, .int (nI c0)), (2, .int (nI k)), (3, .int (nI E))]) hx hb d_r_writeNewest_154 hl (k := 4) rfl rfl (by decide) rfl (fun ls hl => ?_)
                refine lv_goto (tgt := 121) hx hb d_r_writeNewest_157 (by decide) ?_
                have hf := hk3.hint hc0 hqlt hk
                have hmf := Mono.of5 (T := T) hf.2.1
                exact ih121 (i + 1) (hnF σ c0 q k) _ _ _ (by omega) (by omega) hf.1 (hmo3.tr hmf) (fun j hj hb => hmf _ (kp_lt hM k hj).1 k hk (hh3 j hj hb)) hw (lv_sub hl [1, 2, 3, 4, 0] rfl)
        exact L121 4 (0) σ _ _ _ (by omega) (by omega) hwk hmo hh hw (lv_sub hl [1, 2, 3, 4, 0] rfl)
      · refine lv_iconst (v := nI 0) hx hb d_r_writeNewest_26 (by decide) ?_
        refine lv_istore (lv' := [(5, .int (nI 0)), (0, .ref (ad 0)), (1, .int (nI c0)), (2, .int (nI k)), (3, .int (nI E)), (4, .int (nI rd))]) hx hb d_r_writeNewest_27 hl (by decide) rfl (fun ls hl => ?_)
        have L29 : ∀ (n : Nat) (i : Nat) (ll2 : Nat) (a2 : Nat) (σ : St) (H : Heap) (locs : List Loc) (ls : Array Slot), i ≤ 3 → 4 ≤ i + n → a2 < 8 → cb a2 6 ≤ 3 → ll2 ≤ ll → Wk M U T k ll2 a2 σ → σ 0 13 = (T k).1 → Mono T σ0 σ → (∀ i, i < 3 → a2.testBit i = true → hold T σ (kp M k i) k) → cb a 6 ≤ cb a2 6 → (ll2 + cb a 6 < ll + cb a2 6 ∨ ∀ j, j < i → U.testBit (kp M k j) = true → a2.testBit j = true) → rW wr tr_ D ad cs A s σ H locs → lv_has ls 7 [(0, .ref (ad 0)), (1, .int (nI c0)), (2, .int (nI k)), (3, .int (nI E)), (4, .int (nI rd)), (5, .int (nI i))] → W p l e { frames := 2, cells := 0, slots := 0, locals := 41 } s mi args below meth c H locs 0 0 (MQ below (va_Qv ((wrP M U T k E) σ0) (rB wr tr_ D ad cs A) A) args s 0 0 A) (F0 mi 29 ls []) := by
          intro n
          induction n with
          | zero =>
            intro i ll2 a2 σ H locs ls hi hn ha2 hc2 hl2 hk2 hnew2 hmo2 hh2 hm2 hprog hw hl
            omega
          | succ n ih29 =>
            intro i ll2 a2 σ H locs ls hi hn ha2 hc2 hl2 hk2 hnew2 hmo2 hh2 hm2 hprog hw hl
            refine lv_iload hx hb d_r_writeNewest_29 (lv_at hl 5 rfl) ?_
            refine lv_iconst (v := nI 3) hx hb d_r_writeNewest_31 (by decide) ?_
            refine ln_icmp_ge (tgt := 112) hx hb d_r_writeNewest_32 (by decide) (⟨by omega, by omega⟩) (fun c_32 => ?_) (fun c_32 => ?_)
            · refine ln_iinc (lv' := [(4, .int (nI (rd + 1))), (0, .ref (ad 0)), (1, .int (nI c0)), (2, .int (nI k)), (3, .int (nI E)), (5, .int (nI i))]) hx hb d_r_writeNewest_112 hl (k := 4) rfl rfl (by decide) rfl (fun ls hl => ?_)
              refine lv_goto (tgt := 8) hx hb d_r_writeNewest_115 (by decide) ?_
              have hpr : ll2 + cb a 6 < ll + cb a2 6 := by
                rcases hprog with h | h
                · exact h
                · have := hE a2 ha2 (fun j hj => h j (by omega))
                  omega
              exact ih8 (rd + 1) (ll2) (a2) σ _ _ _ (by omega) ha2 hc2 (by omega) hk2 hnew2 hmo2 hh2 (by omega) hw (lv_sub hl [1, 2, 3, 4, 0] rfl)
            · refine lv_aload_n hx hb d_r_writeNewest_35 rfl (lv_at hl 0 rfl) ?_
              refine rg_11 S hw d_r_writeNewest_36 ?_
              refine lv_iload hx hb d_r_writeNewest_39 (lv_at hl 5 rfl) ?_
              refine rl_11 S hw d_r_writeNewest_41 (by omega) ?_
              refine ln_top (hk2.2.2.2.1 i (by omega)) ?_
              obtain ⟨q, eq⟩ : ∃ z, z = kp M k i := ⟨_, rfl⟩
              rw [← eq]
              have hqlt : q < 6 := by rw [eq]; exact (kp_lt hM k (by omega)).1
              refine lv_istore (lv' := [(6, .int (nI q)), (0, .ref (ad 0)), (1, .int (nI c0)), (2, .int (nI k)), (3, .int (nI E)), (4, .int (nI rd)), (5, .int (nI i))]) hx hb d_r_writeNewest_42 hl (by decide) rfl (fun ls hl => ?_)
              refine lv_aload_n hx hb d_r_writeNewest_44 rfl (lv_at hl 1 rfl) ?_
              refine lv_iload hx hb d_r_writeNewest_45 (lv_at hl 0 rfl) ?_
              refine r_calli (rest := []) S hw k_r_r_isWorking (c_r_isWorking l (nI q) U hU.1) (hk2.1.2.1) rfl rfl ⟨by decide, by decide⟩ rfl hl.1 rfl (Nat.le_of_ble_eq_true rfl) ⟨Nat.le_refl _, Nat.le_refl _⟩ d_r_writeNewest_47 (fun r3 σ3 H locs hq3 hw => ?_)
              obtain ⟨es3, er3⟩ := hq3
              rw [es3] at hw
              refine ln_top (er3.trans (bI_congr (mem_nI (by omega)))) ?_
              refine lb_if_eq (tgt := 106) hx hb d_r_writeNewest_50 (by decide) (fun c_50 => ?_) (fun c_50 => ?_)
              · refine ln_iinc (lv' := [(5, .int (nI (i + 1))), (6, .int (nI q)), (0, .ref (ad 0)), (1, .int (nI c0)), (2, .int (nI k)), (3, .int (nI E)), (4, .int (nI rd))]) hx hb d_r_writeNewest_106 hl (k := 6) rfl rfl (by decide) rfl (fun ls hl => ?_)
                refine lv_goto (tgt := 29) hx hb d_r_writeNewest_109 (by decide) ?_
                exact ih29 (i + 1) (ll2) (a2) σ _ _ _ (by omega) (by omega) ha2 hc2 hl2 hk2 hnew2 hmo2 hh2 hm2 (hprog.imp id (fun h j hj hw => by
                      by_cases e : j = i
                      · subst e; rw [← eq] at hw; first | exact absurd hw c_50 | exact c_59
                      · exact h j (by omega) hw)) hw (lv_sub hl [2, 3, 4, 5, 6, 0] rfl)
              · refine lv_aload_n hx hb d_r_writeNewest_53 rfl (lv_at hl 1 rfl) ?_
                refine lv_iload hx hb d_r_writeNewest_54 (lv_at hl 6 rfl) ?_
                refine r_calli (rest := []) S hw k_r_r_hasAnswered (c_r_hasAnswered l i a2 (by omega) (by omega)) (hk2.2.2.2.2) rfl rfl ⟨by decide, by decide⟩ rfl hl.1 rfl (Nat.le_of_ble_eq_true rfl) ⟨Nat.le_refl _, Nat.le_refl _⟩ d_r_writeNewest_56 (fun r4 σ4 H locs hq4 hw => ?_)
                obtain ⟨es4, er4⟩ := hq4
                rw [es4] at hw
                refine ln_top (er4) ?_
                refine lb_if_ne (tgt := 106) hx hb d_r_writeNewest_59 (by decide) (fun c_59 => ?_) (fun c_59 => ?_)
                · refine ln_iinc (lv' := [(5, .int (nI (i + 1))), (6, .int (nI q)), (0, .ref (ad 0)), (1, .int (nI c0)), (2, .int (nI k)), (3, .int (nI E)), (4, .int (nI rd))]) hx hb d_r_writeNewest_106 hl (k := 6) rfl rfl (by decide) rfl (fun ls hl => ?_)
                  refine lv_goto (tgt := 29) hx hb d_r_writeNewest_109 (by decide) ?_
                  exact ih29 (i + 1) (ll2) (a2) σ _ _ _ (by omega) (by omega) ha2 hc2 hl2 hk2 hnew2 hmo2 hh2 hm2 (hprog.imp id (fun h j hj hw => by
                        by_cases e : j = i
                        · subst e; rw [← eq] at hw; first | exact absurd hw c_50 | exact c_59
                        · exact h j (by omega) hw)) hw (lv_sub hl [2, 3, 4, 5, 6, 0] rfl)
                · refine lv_aload_n hx hb d_r_writeNewest_62 rfl (lv_at hl 1 rfl) ?_
                  refine lv_iload_n hx hb d_r_writeNewest_63 rfl (lv_at hl 2 rfl) ?_
                  refine lv_iload hx hb d_r_writeNewest_64 (lv_at hl 0 rfl) ?_
                  refine r_calli (rest := []) S hw k_r_r_comesThrough (c_r_comesThrough l (nI c0) (nI q)) (trivial) rfl rfl ⟨by decide, by decide⟩ rfl hl.1 rfl (Nat.le_of_ble_eq_true rfl) ⟨Nat.le_refl _, Nat.le_refl _⟩ d_r_writeNewest_66 (fun r5 σ5 H locs hq5 hw => ?_)
                  obtain ⟨l5, hl5, hz5, hk5, h55, hr5⟩ := Wk.ct hk2 (by omega) hq5
                  have hmo5 := (Mono.rf (T := T) (σ := σ)).tr (Mono.of5 (T := T) h55)
                  refine lv_if_eq (tgt := 106) hx hb d_r_writeNewest_69 (by decide) (fun c_69 => ?_) (fun c_69 => ?_)
                  · refine ln_iinc (lv' := [(5, .int (nI (i + 1))), (6, .int (nI q)), (0, .ref (ad 0)), (1, .int (nI c0)), (2, .int (nI k)), (3, .int (nI E)), (4, .int (nI rd))]) hx hb d_r_writeNewest_106 hl (k := 6) rfl rfl (by decide) rfl (fun ls hl => ?_)
                    refine lv_goto (tgt := 29) hx hb d_r_writeNewest_109 (by decide) ?_
                    exact ih29 (i + 1) (l5) (a2) σ5 _ _ _ (by omega) (by omega) ha2 hc2 (by omega) hk5 (hr5.trans hnew2) (hmo2.tr hmo5) (fun j hj hb => hmo5 _ (kp_lt hM k hj).1 k hk (hh2 j hj hb)) hm2 (Or.inl (by have := hz5 c_69; omega)) hw (lv_sub hl [2, 3, 4, 5, 6, 0] rfl)
                  · refine lv_aload_n hx hb d_r_writeNewest_72 rfl (lv_at hl 1 rfl) ?_
                    refine lv_iload hx hb d_r_writeNewest_73 (lv_at hl 0 rfl) ?_
                    refine lv_iload_n hx hb d_r_writeNewest_75 rfl (lv_at hl 3 rfl) ?_
                    refine r_callv (rest := []) S hw k_r_r_store (c_r_store l q k (by omega) (by omega)) (hk5.2.1.2.2.2.2) rfl rfl ⟨by decide, by decide⟩ rfl hl.1 rfl (Nat.le_of_ble_eq_true rfl) ⟨Nat.le_refl _, Nat.le_refl _⟩ d_r_writeNewest_76 (fun σ6 H locs hq6 hw => ?_)
                    rw [hq6] at hw
                    have hs7 := hk5.store hqlt hk
                    have hst := stF_hold hk5.2.1 (hr5.trans hnew2) hqlt hk
                    have hms7 := hmo5.tr hs7.2.1
                    refine lv_aload_n hx hb d_r_writeNewest_79 rfl (lv_at hl 1 rfl) ?_
                    refine lv_dup hx hb d_r_writeNewest_80 rfl ?_
                    refine rg_12 S hw d_r_writeNewest_81 ?_
                    refine ln_top (show _ = nI a2 from hs7.1.2.2.2.2) ?_
                    refine lv_aload_n hx hb d_r_writeNewest_84 rfl (lv_at hl 1 rfl) ?_
                    refine lv_iload hx hb d_r_writeNewest_85 (lv_at hl 0 rfl) ?_
                    refine lv_iload_n hx hb d_r_writeNewest_87 rfl (lv_at hl 2 rfl) ?_
                    refine r_calli (rest := [.int (nI a2), .ref (ad 0)]) S hw k_r_r_comesThrough (c_r_comesThrough l (nI q) (nI c0)) (trivial) rfl rfl ⟨by decide, by decide⟩ rfl hl.1 rfl (Nat.le_of_ble_eq_true rfl) ⟨Nat.le_refl _, Nat.le_refl _⟩ d_r_writeNewest_88 (fun r8 σ8 H locs hq8 hw => ?_)
                    obtain ⟨l8, hl8, hz8, hk8, h58, hr8⟩ := Wk.ct hs7.1 (by omega) hq8
                    have hmo8 := hms7.tr (Mono.of5 (T := T) h58)
                    have hmo8_ := Mono.of5 (T := T) h58
                    refine lv_if_eq (tgt := 101) hx hb d_r_writeNewest_91 (by decide) (fun c_91 => ?_) (fun c_91 => ?_)
                    · refine lv_iconst (v := nI 0) hx hb d_r_writeNewest_101 (by decide) ?_
                      refine lv_ior hx hb d_r_writeNewest_102 ?_
                      refine ln_top (or80 a2 ha2) ?_
                      refine rp_12 S hw d_r_writeNewest_103 (fun H locs hw => ?_)
                      refine ln_iinc (lv' := [(5, .int (nI (i + 1))), (6, .int (nI q)), (0, .ref (ad 0)), (1, .int (nI c0)), (2, .int (nI k)), (3, .int (nI E)), (4, .int (nI rd))]) hx hb d_r_writeNewest_106 hl (k := 6) rfl rfl (by decide) rfl (fun ls hl => ?_)
                      refine lv_goto (tgt := 29) hx hb d_r_writeNewest_109 (by decide) ?_
                      have hfin := Wk.ans hk8 a2
                      have hmf := hmo8.tr (Mono.of5 (T := T) hfin.2.1)
                      exact ih29 (i + 1) (l8) (a2) (up2 σ8 0 12 (nI a2)) _ _ _ (by omega) (by omega) ha2 hc2 (by omega) hfin.1 (hfin.2.2.trans (hr8.trans (hs7.2.2.trans (hr5.trans hnew2)))) (hmo2.tr hmf) (fun j hj hb => hmf _ (kp_lt hM k hj).1 k hk (hh2 j hj hb)) hm2 (Or.inl (by have := hz8 c_91; omega)) hw (lv_sub hl [2, 3, 4, 5, 6, 0] rfl)
                    · refine lv_iconst (v := nI 1) hx hb d_r_writeNewest_94 (by decide) ?_
                      refine lv_iload hx hb d_r_writeNewest_95 (lv_at hl 6 rfl) ?_
                      refine lv_ishl hx hb d_r_writeNewest_97 ?_
                      refine lv_goto (tgt := 102) hx hb d_r_writeNewest_98 (by decide) ?_
                      refine lv_ior hx hb d_r_writeNewest_102 ?_
                      refine ln_top (or8 a2 ha2 i (by omega)).1 ?_
                      refine rp_12 S hw d_r_writeNewest_103 (fun H locs hw => ?_)
                      refine ln_iinc (lv' := [(5, .int (nI (i + 1))), (6, .int (nI q)), (0, .ref (ad 0)), (1, .int (nI c0)), (2, .int (nI k)), (3, .int (nI E)), (4, .int (nI rd))]) hx hb d_r_writeNewest_106 hl (k := 6) rfl rfl (by decide) rfl (fun ls hl => ?_)
                      refine lv_goto (tgt := 29) hx hb d_r_writeNewest_109 (by decide) ?_
                      have ho := or8 a2 ha2 i (by omega)
                      have hfin := Wk.ans hk8 (a2 ||| 2 ^ i)
                      have hmf := hmo8.tr (Mono.of5 (T := T) hfin.2.1)
                      exact ih29 (i + 1) (l8) (a2 ||| 2 ^ i) (up2 σ8 0 12 (nI (a2 ||| 2 ^ i))) _ _ _ (by omega) (by omega) ho.2.1 ho.2.2.1 (by omega) hfin.1 (hfin.2.2.trans (hr8.trans (hs7.2.2.trans (hr5.trans hnew2)))) (hmo2.tr hmf) (wr_hh hM hk hh2 hmf ((Mono.of5 (T := T) hfin.2.1) _ hqlt k hk (hmo8_ _ hqlt k hk hst)) ha2 (by omega) eq) (by omega) (Or.inl (by have := ho.2.2.2.2.1 c_59; omega)) hw (lv_sub hl [2, 3, 4, 5, 6, 0] rfl)
        exact L29 4 (0) (ll) (a) σ _ _ _ (by omega) (by omega) ha hc (Nat.le_refl _) hwk hnew hmo hh (Nat.le_refl _) (Or.inr (fun j hj => absurd hj (Nat.not_lt_zero j))) hw (lv_sub hl [1, 2, 3, 4, 5, 0] rfl)
  exact L8 34 (0) (ll0) (0) (up2 σ0 0 12 (nI 0)) _ _ _ (by have h0 : cb 0 6 = 0 := rfl; omega) (by decide) (by decide) hll0 hwk hnew0 (Mono.of5 rfl) (fun i _ hb => absurd hb (by simp)) (by omega) hw (lv_sub hl [1, 2, 3, 4, 0] rfl)

set_option maxHeartbeats 4000000 in
set_option maxRecDepth 100000 in
theorem c_r_change (l : Launch) (c0 : Nat) (k : Nat) (v : Int32) (aw : Int32) (M : Nat) (U : Nat) (T : Tr) (s0 : Nat) (hM : okM M) (hU : okW M U) (hk : k < 16) (hc0 : c0 < 6) (haw : isB aw) (hs : s0 < 2 ^ 20) (hsT : (T k).1 = nI s0) : rCv wr tr_ l y_r_change w_r_change 3 67 [.int (nI c0), .int (nI k), .int (v), .int (aw)] (fun σ => Inv M U T σ ∧ σ 0 13 = (T k).1 ∧ ∀ i, i < 3 → σ 11 i = nI (kp M k i)) (fun σ σ' => Inv M U (Tnew T k ((s0 / 8 + 1) * 8 + c0) v aw) σ') := by
  refine rCv.mk (b := b_r_change) (nL := 5) R_rr (by decide) rfl (Nat.le_of_ble_eq_true rfl) ?_
  intro D ad cs σ0 ⟨hinv, hnew, hkk⟩ p e s mi args below meth c A S hr hlk hw ls hl
  have hx := S.1
  have hb := S.2.1
  have hts := S.2.2.2.2
  have hown := S.2.2.2.1
  have hl : lv_has ls 5 [(0, .ref (ad 0)), (1, .int (nI c0)), (2, .int (nI k)), (3, .int (v)), (4, .int (aw))] := hl
  refine lv_aload_n hx hb d_r_change_0 rfl (lv_at hl 0 rfl) ?_
  refine lv_aload_n hx hb d_r_change_1 rfl (lv_at hl 0 rfl) ?_
  refine rg_13 S hw d_r_change_2 ?_
  refine ln_top (hnew.trans hsT) ?_
  refine lv_bipush (v := nI 8) hx hb d_r_change_5 (by decide) ?_
  refine ln_idiv hx hb d_r_change_7 ⟨by omega, by omega, by omega⟩ ?_
  refine lv_iconst (v := nI 1) hx hb d_r_change_8 (by decide) ?_
  refine ln_iadd hx hb d_r_change_9 ?_
  refine lv_bipush (v := nI 8) hx hb d_r_change_10 (by decide) ?_
  refine ln_imul hx hb d_r_change_12 ?_
  refine lv_iload_n hx hb d_r_change_13 rfl (lv_at hl 1 rfl) ?_
  refine ln_iadd hx hb d_r_change_14 ?_
  refine rp_13 S hw d_r_change_15 (fun H locs hw => ?_)
  refine lv_aload_n hx hb d_r_change_18 rfl (lv_at hl 0 rfl) ?_
  refine lv_iload_n hx hb d_r_change_19 rfl (lv_at hl 3 rfl) ?_
  refine rp_14 S hw d_r_change_20 (fun H locs hw => ?_)
  refine lv_aload_n hx hb d_r_change_23 rfl (lv_at hl 0 rfl) ?_
  refine lv_iload hx hb d_r_change_24 (lv_at hl 4 rfl) ?_
  refine rp_15 S hw d_r_change_26 (haw) (fun H locs hw => ?_)
  refine lv_aload_n hx hb d_r_change_29 rfl (lv_at hl 0 rfl) ?_
  refine lv_iload_n hx hb d_r_change_30 rfl (lv_at hl 1 rfl) ?_
  refine lv_iload_n hx hb d_r_change_31 rfl (lv_at hl 2 rfl) ?_
  refine lv_iconst (v := nI 2) hx hb d_r_change_32 (by decide) ?_
  refine r_callv (rest := []) S hw k_r_r_writeNewest (c_r_writeNewest l c0 k 2 M U (Tnew T k ((s0 / 8 + 1) * 8 + c0) v aw) hM hU hk hc0 (fun a ha h => enough2 hM hU ha h) (by decide)) (ch_pre hinv hk hsT hs hc0 haw hkk) rfl rfl ⟨by decide, by decide⟩ rfl hl.1 rfl (Nat.le_of_ble_eq_true rfl) ⟨Nat.le_refl _, Nat.le_refl _⟩ d_r_change_33 (fun σ1 H locs hq1 hw => ?_)
  exact r_vret S hr hlk hw d_r_change_36 (ch_post hinv hM (show _ = σ0 5 from rfl) hq1)

/-- what put does: c the machine, k the key, v the number -/
def putP (M U : Nat) (T : Tr) (cn : Nat → Nat) (c k v : Int32) (σ : St) (r : Int32) (σ' : St) : Prop :=
  (¬ (inM c 6 ∧ inM k 16 ∧ isNum v) ∧ r = cBAD ∧ σ' = σ) ∨ ((inM c 6 ∧ inM k 16 ∧ isNum v) ∧ ¬ mem U c ∧ r = cREF ∧ σ' = σ) ∨
  ∃ cj kj, cj < 6 ∧ kj < 16 ∧ c = nI cj ∧ k = nI kj ∧ isNum v ∧ U.testBit cj = true ∧ r = num T kj ∧ Inv M U (Tnew T kj ((cn kj / 8 + 1) * 8 + cj) v (nI 0)) σ'
def getP (M U : Nat) (T : Tr) (c k : Int32) (σ : St) (r : Int32) (σ' : St) : Prop :=
  (¬ (inM c 6 ∧ inM k 16) ∧ r = cBAD ∧ σ' = σ) ∨ ((inM c 6 ∧ inM k 16) ∧ ¬ mem U c ∧ r = cREF ∧ σ' = σ) ∨
  ∃ cj kj, cj < 6 ∧ kj < 16 ∧ c = nI cj ∧ k = nI kj ∧ U.testBit cj = true ∧ r = num T kj ∧ Inv M U T σ'
def remP (M U : Nat) (T : Tr) (cn : Nat → Nat) (c k : Int32) (σ : St) (r : Int32) (σ' : St) : Prop :=
  (¬ (inM c 6 ∧ inM k 16) ∧ r = cBAD ∧ σ' = σ) ∨ ((inM c 6 ∧ inM k 16) ∧ ¬ mem U c ∧ r = cREF ∧ σ' = σ) ∨
  ∃ cj kj, cj < 6 ∧ kj < 16 ∧ c = nI cj ∧ k = nI kj ∧ U.testBit cj = true ∧ r = num T kj ∧ Inv M U (Tnew T kj ((cn kj / 8 + 1) * 8 + cj) (nI 0) (nI 1)) σ'
abbrev sumN (T : Tr) (k : Nat) (d : Int32) : Int32 := if num T k = cNONE then d else num T k + d
def addP (M U : Nat) (T : Tr) (cn : Nat → Nat) (c k d : Int32) (σ : St) (r : Int32) (σ' : St) : Prop :=
  (¬ (inM c 6 ∧ inM k 16 ∧ isNum d) ∧ r = cBAD ∧ σ' = σ) ∨ ((inM c 6 ∧ inM k 16 ∧ isNum d) ∧ ¬ mem U c ∧ r = cREF ∧ σ' = σ) ∨
  ∃ cj kj, cj < 6 ∧ kj < 16 ∧ c = nI cj ∧ k = nI kj ∧ isNum d ∧ U.testBit cj = true ∧ ((¬ isNum (sumN T kj d) ∧ r = cREF ∧ Inv M U T σ') ∨ (isNum (sumN T kj d) ∧ r = sumN T kj d ∧ Inv M U (Tnew T kj ((cn kj / 8 + 1) * 8 + cj) (sumN T kj d) (nI 0)) σ'))

set_option maxHeartbeats 4000000 in
set_option maxRecDepth 100000 in
theorem c_r_put (l : Launch) (cx : Int32) (k : Int32) (v : Int32) (M : Nat) (U : Nat) (T : Tr) (cn : Nat → Nat) (hM : okM M) (hU : okW M U) (hcn : ∀ k, k < 16 → (T k).1 = nI (cn k) ∧ cn k < 2 ^ 20) : rCi wr tr_ l y_r_put w_r_put 4 91 [.int (cx), .int (k), .int (v)] (Inv M U T) (putP M U T cn cx k v) := by
  refine rCi.mk (b := b_r_put) (nL := 5) (rt := .int) R_rr (by decide) rfl (Nat.le_of_ble_eq_true rfl) ?_
  intro D ad cs σ0 hinv p e s mi args below meth c A S hr hlk hw ls hl
  have hx := S.1
  have hb := S.2.1
  have hts := S.2.2.2.2
  have hown := S.2.2.2.1
  have hl : lv_has ls 5 [(0, .ref (ad 0)), (1, .int (cx)), (2, .int (k)), (3, .int (v))] := hl
  refine lv_iload_n hx hb d_r_put_0 rfl (lv_at hl 1 rfl) ?_
  refine r_calls (rest := []) S k_r_r_isMachine (c_r_isMachine l (cx)) ⟨by decide, by decide⟩ rfl hl.1 rfl (Nat.le_of_ble_eq_true rfl) ⟨Nat.le_refl _, Nat.le_refl _⟩ d_r_put_1 ?_
  refine lb_if_eq (tgt := 21) hx hb d_r_put_4 (by decide) (fun c_4 => ?_) (fun c_4 => ?_)
  · refine lv_ldc (v := (-100000)) hx hb hown (hts _ q_const_r_136) d_r_put_21 ?_
    exact r_iret S hr hlk hw d_r_put_23 (Or.inl ⟨fun h => by first | exact c_4 h.1 | exact c_11 h.2.1 | exact c_18 h.2.2, rfl, rfl⟩)
  · refine lv_iload_n hx hb d_r_put_7 rfl (lv_at hl 2 rfl) ?_
    refine r_calls (rest := []) S k_r_r_isKey (c_r_isKey l (k)) ⟨by decide, by decide⟩ rfl hl.1 rfl (Nat.le_of_ble_eq_true rfl) ⟨Nat.le_refl _, Nat.le_refl _⟩ d_r_put_8 ?_
    refine lb_if_eq (tgt := 21) hx hb d_r_put_11 (by decide) (fun c_11 => ?_) (fun c_11 => ?_)
    · refine lv_ldc (v := (-100000)) hx hb hown (hts _ q_const_r_136) d_r_put_21 ?_
      exact r_iret S hr hlk hw d_r_put_23 (Or.inl ⟨fun h => by first | exact c_4 h.1 | exact c_11 h.2.1 | exact c_18 h.2.2, rfl, rfl⟩)
    · refine lv_iload_n hx hb d_r_put_14 rfl (lv_at hl 3 rfl) ?_
      refine r_calls (rest := []) S k_r_r_isNumber (c_r_isNumber l (v)) ⟨by decide, by decide⟩ rfl hl.1 rfl (Nat.le_of_ble_eq_true rfl) ⟨Nat.le_refl _, Nat.le_refl _⟩ d_r_put_15 ?_
      refine lb_if_ne (tgt := 24) hx hb d_r_put_18 (by decide) (fun c_18 => ?_) (fun c_18 => ?_)
      · obtain ⟨cj, hcj, ecj⟩ := inM_of c_4 (by decide)
        subst ecj
        obtain ⟨kj, hkj, ekj⟩ := inM_of c_11 (by decide)
        subst ekj
        refine lv_aload_n hx hb d_r_put_24 rfl (lv_at hl 0 rfl) ?_
        refine lv_iload_n hx hb d_r_put_25 rfl (lv_at hl 1 rfl) ?_
        refine r_calli (rest := []) S hw k_r_r_isWorking (c_r_isWorking l (nI cj) U hU.1) (hinv.1.choose_spec.2.2.1) rfl rfl ⟨by decide, by decide⟩ rfl hl.1 rfl (Nat.le_of_ble_eq_true rfl) ⟨Nat.le_refl _, Nat.le_refl _⟩ d_r_put_26 (fun r1 σ1 H locs hq1 hw => ?_)
        obtain ⟨es1, er1⟩ := hq1
        rw [es1] at hw
        refine ln_top (er1.trans (bI_congr (mem_nI (by omega)))) ?_
        refine lb_if_ne (tgt := 35) hx hb d_r_put_29 (by decide) (fun c_29 => ?_) (fun c_29 => ?_)
        · refine lv_aload_n hx hb d_r_put_35 rfl (lv_at hl 0 rfl) ?_
          refine lv_iload_n hx hb d_r_put_36 rfl (lv_at hl 1 rfl) ?_
          refine lv_iload_n hx hb d_r_put_37 rfl (lv_at hl 2 rfl) ?_
          refine r_callv (rest := []) S hw k_r_r_readNewest (c_r_readNewest l cj kj M U T hM hU (by omega)) (hinv.rdpre (by omega)) rfl rfl ⟨by decide, by decide⟩ rfl hl.1 rfl (Nat.le_of_ble_eq_true rfl) ⟨Nat.le_refl _, Nat.le_refl _⟩ d_r_put_38 (fun σ2 H locs hq2 hw => ?_)
          have hinv2 := hinv.rd (by omega) hM hq2
          refine lv_aload_n hx hb d_r_put_41 rfl (lv_at hl 0 rfl) ?_
          refine r_calli (rest := []) S hw k_r_r_readNumber (c_r_readNumber l) (trivial) rfl rfl ⟨by decide, by decide⟩ rfl hl.1 rfl (Nat.le_of_ble_eq_true rfl) ⟨Nat.le_refl _, Nat.le_refl _⟩ d_r_put_42 (fun r3 σ3 H locs hq3 hw => ?_)
          obtain ⟨es3, er3⟩ := hq3
          rw [es3] at hw
          refine ln_top (er3.trans (rd_num hq2)) ?_
          refine lv_istore (lv' := [(4, .int (num T kj)), (0, .ref (ad 0)), (1, .int (nI cj)), (2, .int (nI kj)), (3, .int (v))]) hx hb d_r_put_45 hl (by decide) rfl (fun ls hl => ?_)
          refine lv_aload_n hx hb d_r_put_47 rfl (lv_at hl 1 rfl) ?_
          refine lv_iload_n hx hb d_r_put_48 rfl (lv_at hl 2 rfl) ?_
          refine lv_iload_n hx hb d_r_put_49 rfl (lv_at hl 3 rfl) ?_
          refine lv_iload_n hx hb d_r_put_50 rfl (lv_at hl 4 rfl) ?_
          refine lv_iconst (v := nI 0) hx hb d_r_put_51 (by decide) ?_
          refine r_callv (rest := []) S hw k_r_r_change (c_r_change l cj kj (v) (nI 0) M U T (cn kj) hM hU (by omega) (by omega) (isB_n0) (hcn kj (by omega)).2 (hcn kj (by omega)).1) (⟨hinv2, hq2.2.2.2.1, hq2.2.2.2.2.2⟩) rfl rfl ⟨by decide, by decide⟩ rfl hl.1 rfl (Nat.le_of_ble_eq_true rfl) ⟨Nat.le_refl _, Nat.le_refl _⟩ d_r_put_52 (fun σ4 H locs hq4 hw => ?_)
          refine lv_iload hx hb d_r_put_55 (lv_at hl 0 rfl) ?_
          exact r_iret S hr hlk hw d_r_put_57 (Or.inr (Or.inr ⟨cj, kj, hcj, hkj, rfl, rfl, c_18, c_29, rfl, hq4⟩))
        · refine lv_ldc (v := (-300000)) hx hb hown (hts _ q_const_r_137) d_r_put_32 ?_
          exact r_iret S hr hlk hw d_r_put_34 (Or.inr (Or.inl ⟨⟨c_4, c_11, c_18⟩, fun h => c_29 ((mem_nI hcj).mp h), rfl, rfl⟩))
      · refine lv_ldc (v := (-100000)) hx hb hown (hts _ q_const_r_136) d_r_put_21 ?_
        exact r_iret S hr hlk hw d_r_put_23 (Or.inl ⟨fun h => by first | exact c_4 h.1 | exact c_11 h.2.1 | exact c_18 h.2.2, rfl, rfl⟩)

set_option maxHeartbeats 4000000 in
set_option maxRecDepth 100000 in
theorem c_r_get (l : Launch) (cx : Int32) (k : Int32) (M : Nat) (U : Nat) (T : Tr) (cn : Nat → Nat) (hM : okM M) (hU : okW M U) (hcn : ∀ k, k < 16 → (T k).1 = nI (cn k) ∧ cn k < 2 ^ 20) : rCi wr tr_ l y_r_get w_r_get 3 74 [.int (cx), .int (k)] (Inv M U T) (getP M U T cx k) := by
  refine rCi.mk (b := b_r_get) (nL := 3) (rt := .int) R_rr (by decide) rfl (Nat.le_of_ble_eq_true rfl) ?_
  intro D ad cs σ0 hinv p e s mi args below meth c A S hr hlk hw ls hl
  have hx := S.1
  have hb := S.2.1
  have hts := S.2.2.2.2
  have hown := S.2.2.2.1
  have hl : lv_has ls 3 [(0, .ref (ad 0)), (1, .int (cx)), (2, .int (k))] := hl
  refine lv_iload_n hx hb d_r_get_0 rfl (lv_at hl 1 rfl) ?_
  refine r_calls (rest := []) S k_r_r_isMachine (c_r_isMachine l (cx)) ⟨by decide, by decide⟩ rfl hl.1 rfl (Nat.le_of_ble_eq_true rfl) ⟨Nat.le_refl _, Nat.le_refl _⟩ d_r_get_1 ?_
  refine lb_if_eq (tgt := 14) hx hb d_r_get_4 (by decide) (fun c_4 => ?_) (fun c_4 => ?_)
  · refine lv_ldc (v := (-100000)) hx hb hown (hts _ q_const_r_136) d_r_get_14 ?_
    exact r_iret S hr hlk hw d_r_get_16 (Or.inl ⟨fun h => by first | exact c_4 h.1 | exact c_11 h.2, rfl, rfl⟩)
  · refine lv_iload_n hx hb d_r_get_7 rfl (lv_at hl 2 rfl) ?_
    refine r_calls (rest := []) S k_r_r_isKey (c_r_isKey l (k)) ⟨by decide, by decide⟩ rfl hl.1 rfl (Nat.le_of_ble_eq_true rfl) ⟨Nat.le_refl _, Nat.le_refl _⟩ d_r_get_8 ?_
    refine lb_if_ne (tgt := 17) hx hb d_r_get_11 (by decide) (fun c_11 => ?_) (fun c_11 => ?_)
    · obtain ⟨cj, hcj, ecj⟩ := inM_of c_4 (by decide)
      subst ecj
      obtain ⟨kj, hkj, ekj⟩ := inM_of c_11 (by decide)
      subst ekj
      refine lv_aload_n hx hb d_r_get_17 rfl (lv_at hl 0 rfl) ?_
      refine lv_iload_n hx hb d_r_get_18 rfl (lv_at hl 1 rfl) ?_
      refine r_calli (rest := []) S hw k_r_r_isWorking (c_r_isWorking l (nI cj) U hU.1) (hinv.1.choose_spec.2.2.1) rfl rfl ⟨by decide, by decide⟩ rfl hl.1 rfl (Nat.le_of_ble_eq_true rfl) ⟨Nat.le_refl _, Nat.le_refl _⟩ d_r_get_19 (fun r1 σ1 H locs hq1 hw => ?_)
      obtain ⟨es1, er1⟩ := hq1
      rw [es1] at hw
      refine ln_top (er1.trans (bI_congr (mem_nI (by omega)))) ?_
      refine lb_if_ne (tgt := 28) hx hb d_r_get_22 (by decide) (fun c_22 => ?_) (fun c_22 => ?_)
      · refine lv_aload_n hx hb d_r_get_28 rfl (lv_at hl 0 rfl) ?_
        refine lv_iload_n hx hb d_r_get_29 rfl (lv_at hl 1 rfl) ?_
        refine lv_iload_n hx hb d_r_get_30 rfl (lv_at hl 2 rfl) ?_
        refine r_callv (rest := []) S hw k_r_r_readNewest (c_r_readNewest l cj kj M U T hM hU (by omega)) (hinv.rdpre (by omega)) rfl rfl ⟨by decide, by decide⟩ rfl hl.1 rfl (Nat.le_of_ble_eq_true rfl) ⟨Nat.le_refl _, Nat.le_refl _⟩ d_r_get_31 (fun σ2 H locs hq2 hw => ?_)
        have hinv2 := hinv.rd (by omega) hM hq2
        refine lv_aload_n hx hb d_r_get_34 rfl (lv_at hl 0 rfl) ?_
        refine r_calli (rest := []) S hw k_r_r_readNumber (c_r_readNumber l) (trivial) rfl rfl ⟨by decide, by decide⟩ rfl hl.1 rfl (Nat.le_of_ble_eq_true rfl) ⟨Nat.le_refl _, Nat.le_refl _⟩ d_r_get_35 (fun r3 σ3 H locs hq3 hw => ?_)
        obtain ⟨es3, er3⟩ := hq3
        rw [es3] at hw
        refine ln_top (er3.trans (rd_num hq2)) ?_
        exact r_iret S hr hlk hw d_r_get_38 (Or.inr (Or.inr ⟨cj, kj, hcj, hkj, rfl, rfl, c_22, rfl, hinv2⟩))
      · refine lv_ldc (v := (-300000)) hx hb hown (hts _ q_const_r_137) d_r_get_25 ?_
        exact r_iret S hr hlk hw d_r_get_27 (Or.inr (Or.inl ⟨⟨c_4, c_11⟩, fun h => c_22 ((mem_nI hcj).mp h), rfl, rfl⟩))
    · refine lv_ldc (v := (-100000)) hx hb hown (hts _ q_const_r_136) d_r_get_14 ?_
      exact r_iret S hr hlk hw d_r_get_16 (Or.inl ⟨fun h => by first | exact c_4 h.1 | exact c_11 h.2, rfl, rfl⟩)

set_option maxHeartbeats 4000000 in
set_option maxRecDepth 100000 in
theorem c_r_remove (l : Launch) (cx : Int32) (k : Int32) (M : Nat) (U : Nat) (T : Tr) (cn : Nat → Nat) (hM : okM M) (hU : okW M U) (hcn : ∀ k, k < 16 → (T k).1 = nI (cn k) ∧ cn k < 2 ^ 20) : rCi wr tr_ l y_r_remove w_r_remove 4 91 [.int (cx), .int (k)] (Inv M U T) (remP M U T cn cx k) := by
  refine rCi.mk (b := b_r_remove) (nL := 4) (rt := .int) R_rr (by decide) rfl (Nat.le_of_ble_eq_true rfl) ?_
  intro D ad cs σ0 hinv p e s mi args below meth c A S hr hlk hw ls hl
  have hx := S.1
  have hb := S.2.1
  have hts := S.2.2.2.2
  have hown := S.2.2.2.1
  have hl : lv_has ls 4 [(0, .ref (ad 0)), (1, .int (cx)), (2, .int (k))] := hl
  refine lv_iload_n hx hb d_r_remove_0 rfl (lv_at hl 1 rfl) ?_
  refine r_calls (rest := []) S k_r_r_isMachine (c_r_isMachine l (cx)) ⟨by decide, by decide⟩ rfl hl.1 rfl (Nat.le_of_ble_eq_true rfl) ⟨Nat.le_refl _, Nat.le_refl _⟩ d_r_remove_1 ?_
  refine lb_if_eq (tgt := 14) hx hb d_r_remove_4 (by decide) (fun c_4 => ?_) (fun c_4 => ?_)
  · refine lv_ldc (v := (-100000)) hx hb hown (hts _ q_const_r_136) d_r_remove_14 ?_
    exact r_iret S hr hlk hw d_r_remove_16 (Or.inl ⟨fun h => by first | exact c_4 h.1 | exact c_11 h.2, rfl, rfl⟩)
  · refine lv_iload_n hx hb d_r_remove_7 rfl (lv_at hl 2 rfl) ?_
    refine r_calls (rest := []) S k_r_r_isKey (c_r_isKey l (k)) ⟨by decide, by decide⟩ rfl hl.1 rfl (Nat.le_of_ble_eq_true rfl) ⟨Nat.le_refl _, Nat.le_refl _⟩ d_r_remove_8 ?_
    refine lb_if_ne (tgt := 17) hx hb d_r_remove_11 (by decide) (fun c_11 => ?_) (fun c_11 => ?_)
    · obtain ⟨cj, hcj, ecj⟩ := inM_of c_4 (by decide)
      subst ecj
      obtain ⟨kj, hkj, ekj⟩ := inM_of c_11 (by decide)
      subst ekj
      refine lv_aload_n hx hb d_r_remove_17 rfl (lv_at hl 0 rfl) ?_
      refine lv_iload_n hx hb d_r_remove_18 rfl (lv_at hl 1 rfl) ?_
      refine r_calli (rest := []) S hw k_r_r_isWorking (c_r_isWorking l (nI cj) U hU.1) (hinv.1.choose_spec.2.2.1) rfl rfl ⟨by decide, by decide⟩ rfl hl.1 rfl (Nat.le_of_ble_eq_true rfl) ⟨Nat.le_refl _, Nat.le_refl _⟩ d_r_remove_19 (fun r1 σ1 H locs hq1 hw => ?_)
      obtain ⟨es1, er1⟩ := hq1
      rw [es1] at hw
      refine ln_top (er1.trans (bI_congr (mem_nI (by omega)))) ?_
      refine lb_if_ne (tgt := 28) hx hb d_r_remove_22 (by decide) (fun c_22 => ?_) (fun c_22 => ?_)
      · refine lv_aload_n hx hb d_r_remove_28 rfl (lv_at hl 0 rfl) ?_
        refine lv_iload_n hx hb d_r_remove_29 rfl (lv_at hl 1 rfl) ?_
        refine lv_iload_n hx hb d_r_remove_30 rfl (lv_at hl 2 rfl) ?_
        refine r_callv (rest := []) S hw k_r_r_readNewest (c_r_readNewest l cj kj M U T hM hU (by omega)) (hinv.rdpre (by omega)) rfl rfl ⟨by decide, by decide⟩ rfl hl.1 rfl (Nat.le_of_ble_eq_true rfl) ⟨Nat.le_refl _, Nat.le_refl _⟩ d_r_remove_31 (fun σ2 H locs hq2 hw => ?_)
        have hinv2 := hinv.rd (by omega) hM hq2
        refine lv_aload_n hx hb d_r_remove_34 rfl (lv_at hl 0 rfl) ?_
        refine r_calli (rest := []) S hw k_r_r_readNumber (c_r_readNumber l) (trivial) rfl rfl ⟨by decide, by decide⟩ rfl hl.1 rfl (Nat.le_of_ble_eq_true rfl) ⟨Nat.le_refl _, Nat.le_refl _⟩ d_r_remove_35 (fun r3 σ3 H locs hq3 hw => ?_)
        obtain ⟨es3, er3⟩ := hq3
        rw [es3] at hw
        refine ln_top (er3.trans (rd_num hq2)) ?_
        refine lv_istore_n (lv' := [(3, .int (num T kj)), (0, .ref (ad 0)), (1, .int (nI cj)), (2, .int (nI kj))]) hx hb d_r_remove_38 rfl hl (by decide) rfl (fun ls hl => ?_)
        refine lv_aload_n hx hb d_r_remove_39 rfl (lv_at hl 1 rfl) ?_
        refine lv_iload_n hx hb d_r_remove_40 rfl (lv_at hl 2 rfl) ?_
        refine lv_iload_n hx hb d_r_remove_41 rfl (lv_at hl 3 rfl) ?_
        refine lv_iconst (v := nI 0) hx hb d_r_remove_42 (by decide) ?_
        refine lv_iconst (v := nI 1) hx hb d_r_remove_43 (by decide) ?_
        refine r_callv (rest := []) S hw k_r_r_change (c_r_change l cj kj (nI 0) (nI 1) M U T (cn kj) hM hU (by omega) (by omega) (isB_n1) (hcn kj (by omega)).2 (hcn kj (by omega)).1) (⟨hinv2, hq2.2.2.2.1, hq2.2.2.2.2.2⟩) rfl rfl ⟨by decide, by decide⟩ rfl hl.1 rfl (Nat.le_of_ble_eq_true rfl) ⟨Nat.le_refl _, Nat.le_refl _⟩ d_r_remove_44 (fun σ4 H locs hq4 hw => ?_)
        refine lv_iload_n hx hb d_r_remove_47 rfl (lv_at hl 0 rfl) ?_
        exact r_iret S hr hlk hw d_r_remove_48 (Or.inr (Or.inr ⟨cj, kj, hcj, hkj, rfl, rfl, c_22, rfl, hq4⟩))
      · refine lv_ldc (v := (-300000)) hx hb hown (hts _ q_const_r_137) d_r_remove_25 ?_
        exact r_iret S hr hlk hw d_r_remove_27 (Or.inr (Or.inl ⟨⟨c_4, c_11⟩, fun h => c_22 ((mem_nI hcj).mp h), rfl, rfl⟩))
    · refine lv_ldc (v := (-100000)) hx hb hown (hts _ q_const_r_136) d_r_remove_14 ?_
      exact r_iret S hr hlk hw d_r_remove_16 (Or.inl ⟨fun h => by first | exact c_4 h.1 | exact c_11 h.2, rfl, rfl⟩)

set_option maxHeartbeats 4000000 in
set_option maxRecDepth 100000 in
theorem c_r_add (l : Launch) (cx : Int32) (k : Int32) (d : Int32) (M : Nat) (U : Nat) (T : Tr) (cn : Nat → Nat) (hM : okM M) (hU : okW M U) (hcn : ∀ k, k < 16 → (T k).1 = nI (cn k) ∧ cn k < 2 ^ 20) : rCi wr tr_ l y_r_add w_r_add 4 91 [.int (cx), .int (k), .int (d)] (Inv M U T) (addP M U T cn cx k d) := by
  refine rCi.mk (b := b_r_add) (nL := 6) (rt := .int) R_rr (by decide) rfl (Nat.le_of_ble_eq_true rfl) ?_
  intro D ad cs σ0 hinv p e s mi args below meth c A S hr hlk hw ls hl
  have hx := S.1
  have hb := S.2.1
  have hts := S.2.2.2.2
  have hown := S.2.2.2.1
  have hl : lv_has ls 6 [(0, .ref (ad 0)), (1, .int (cx)), (2, .int (k)), (3, .int (d))] := hl
  refine lv_iload_n hx hb d_r_add_0 rfl (lv_at hl 1 rfl) ?_
  refine r_calls (rest := []) S k_r_r_isMachine (c_r_isMachine l (cx)) ⟨by decide, by decide⟩ rfl hl.1 rfl (Nat.le_of_ble_eq_true rfl) ⟨Nat.le_refl _, Nat.le_refl _⟩ d_r_add_1 ?_
  refine lb_if_eq (tgt := 21) hx hb d_r_add_4 (by decide) (fun c_4 => ?_) (fun c_4 => ?_)
  · refine lv_ldc (v := (-100000)) hx hb hown (hts _ q_const_r_136) d_r_add_21 ?_
    exact r_iret S hr hlk hw d_r_add_23 (Or.inl ⟨fun h => by first | exact c_4 h.1 | exact c_11 h.2.1 | exact c_18 h.2.2, rfl, rfl⟩)
  · refine lv_iload_n hx hb d_r_add_7 rfl (lv_at hl 2 rfl) ?_
    refine r_calls (rest := []) S k_r_r_isKey (c_r_isKey l (k)) ⟨by decide, by decide⟩ rfl hl.1 rfl (Nat.le_of_ble_eq_true rfl) ⟨Nat.le_refl _, Nat.le_refl _⟩ d_r_add_8 ?_
    refine lb_if_eq (tgt := 21) hx hb d_r_add_11 (by decide) (fun c_11 => ?_) (fun c_11 => ?_)
    · refine lv_ldc (v := (-100000)) hx hb hown (hts _ q_const_r_136) d_r_add_21 ?_
      exact r_iret S hr hlk hw d_r_add_23 (Or.inl ⟨fun h => by first | exact c_4 h.1 | exact c_11 h.2.1 | exact c_18 h.2.2, rfl, rfl⟩)
    · refine lv_iload_n hx hb d_r_add_14 rfl (lv_at hl 3 rfl) ?_
      refine r_calls (rest := []) S k_r_r_isNumber (c_r_isNumber l (d)) ⟨by decide, by decide⟩ rfl hl.1 rfl (Nat.le_of_ble_eq_true rfl) ⟨Nat.le_refl _, Nat.le_refl _⟩ d_r_add_15 ?_
      refine lb_if_ne (tgt := 24) hx hb d_r_add_18 (by decide) (fun c_18 => ?_) (fun c_18 => ?_)
      · obtain ⟨cj, hcj, ecj⟩ := inM_of c_4 (by decide)
        subst ecj
        obtain ⟨kj, hkj, ekj⟩ := inM_of c_11 (by decide)
        subst ekj
        refine lv_aload_n hx hb d_r_add_24 rfl (lv_at hl 0 rfl) ?_
        refine lv_iload_n hx hb d_r_add_25 rfl (lv_at hl 1 rfl) ?_
        refine r_calli (rest := []) S hw k_r_r_isWorking (c_r_isWorking l (nI cj) U hU.1) (hinv.1.choose_spec.2.2.1) rfl rfl ⟨by decide, by decide⟩ rfl hl.1 rfl (Nat.le_of_ble_eq_true rfl) ⟨Nat.le_refl _, Nat.le_refl _⟩ d_r_add_26 (fun r1 σ1 H locs hq1 hw => ?_)
        obtain ⟨es1, er1⟩ := hq1
        rw [es1] at hw
        refine ln_top (er1.trans (bI_congr (mem_nI (by omega)))) ?_
        refine lb_if_ne (tgt := 35) hx hb d_r_add_29 (by decide) (fun c_29 => ?_) (fun c_29 => ?_)
        · refine lv_aload_n hx hb d_r_add_35 rfl (lv_at hl 0 rfl) ?_
          refine lv_iload_n hx hb d_r_add_36 rfl (lv_at hl 1 rfl) ?_
          refine lv_iload_n hx hb d_r_add_37 rfl (lv_at hl 2 rfl) ?_
          refine r_callv (rest := []) S hw k_r_r_readNewest (c_r_readNewest l cj kj M U T hM hU (by omega)) (hinv.rdpre (by omega)) rfl rfl ⟨by decide, by decide⟩ rfl hl.1 rfl (Nat.le_of_ble_eq_true rfl) ⟨Nat.le_refl _, Nat.le_refl _⟩ d_r_add_38 (fun σ2 H locs hq2 hw => ?_)
          have hinv2 := hinv.rd (by omega) hM hq2
          refine lv_aload_n hx hb d_r_add_41 rfl (lv_at hl 0 rfl) ?_
          refine r_calli (rest := []) S hw k_r_r_readNumber (c_r_readNumber l) (trivial) rfl rfl ⟨by decide, by decide⟩ rfl hl.1 rfl (Nat.le_of_ble_eq_true rfl) ⟨Nat.le_refl _, Nat.le_refl _⟩ d_r_add_42 (fun r3 σ3 H locs hq3 hw => ?_)
          obtain ⟨es3, er3⟩ := hq3
          rw [es3] at hw
          refine ln_top (er3.trans (rd_num hq2)) ?_
          refine lv_istore (lv' := [(4, .int (num T kj)), (0, .ref (ad 0)), (1, .int (nI cj)), (2, .int (nI kj)), (3, .int (d))]) hx hb d_r_add_45 hl (by decide) rfl (fun ls hl => ?_)
          refine lv_iload hx hb d_r_add_47 (lv_at hl 0 rfl) ?_
          refine lv_ldc (v := (-200000)) hx hb hown (hts _ q_const_r_129) d_r_add_49 ?_
          refine lv_icmp_ne (tgt := 58) hx hb d_r_add_51 (by decide) (fun c_51 => ?_) (fun c_51 => ?_)
          · refine lv_iload hx hb d_r_add_58 (lv_at hl 0 rfl) ?_
            refine lv_iload_n hx hb d_r_add_60 rfl (lv_at hl 4 rfl) ?_
            refine lv_iadd hx hb d_r_add_61 ?_
            refine ln_top (y := sumN T kj d) (by unfold sumN; first | exact (if_pos c_51).symm | exact (if_neg c_51).symm) ?_
            refine lv_istore (lv' := [(5, .int (sumN T kj d)), (4, .int (num T kj)), (0, .ref (ad 0)), (1, .int (nI cj)), (2, .int (nI kj)), (3, .int (d))]) hx hb d_r_add_62 hl (by decide) rfl (fun ls hl => ?_)
            refine lv_iload hx hb d_r_add_64 (lv_at hl 0 rfl) ?_
            refine r_calls (rest := []) S k_r_r_isNumber (c_r_isNumber l (sumN T kj d)) ⟨by decide, by decide⟩ rfl hl.1 rfl (Nat.le_of_ble_eq_true rfl) ⟨Nat.le_refl _, Nat.le_refl _⟩ d_r_add_66 ?_
            refine lb_if_ne (tgt := 75) hx hb d_r_add_69 (by decide) (fun c_69 => ?_) (fun c_69 => ?_)
            · refine lv_aload_n hx hb d_r_add_75 rfl (lv_at hl 2 rfl) ?_
              refine lv_iload_n hx hb d_r_add_76 rfl (lv_at hl 3 rfl) ?_
              refine lv_iload_n hx hb d_r_add_77 rfl (lv_at hl 4 rfl) ?_
              refine lv_iload hx hb d_r_add_78 (lv_at hl 0 rfl) ?_
              refine lv_iconst (v := nI 0) hx hb d_r_add_80 (by decide) ?_
              refine r_callv (rest := []) S hw k_r_r_change (c_r_change l cj kj (sumN T kj d) (nI 0) M U T (cn kj) hM hU (by omega) (by omega) (isB_n0) (hcn kj (by omega)).2 (hcn kj (by omega)).1) (⟨hinv2, hq2.2.2.2.1, hq2.2.2.2.2.2⟩) rfl rfl ⟨by decide, by decide⟩ rfl hl.1 rfl (Nat.le_of_ble_eq_true rfl) ⟨Nat.le_refl _, Nat.le_refl _⟩ d_r_add_81 (fun σ4 H locs hq4 hw => ?_)
              refine lv_iload hx hb d_r_add_84 (lv_at hl 0 rfl) ?_
              exact r_iret S hr hlk hw d_r_add_86 (Or.inr (Or.inr ⟨cj, kj, hcj, hkj, rfl, rfl, c_18, c_29, Or.inr ⟨c_69, rfl, hq4⟩⟩))
            · refine lv_ldc (v := (-300000)) hx hb hown (hts _ q_const_r_137) d_r_add_72 ?_
              exact r_iret S hr hlk hw d_r_add_74 (Or.inr (Or.inr ⟨cj, kj, hcj, hkj, rfl, rfl, c_18, c_29, Or.inl ⟨c_69, rfl, hinv2⟩⟩))
          · refine lv_iload_n hx hb d_r_add_54 rfl (lv_at hl 4 rfl) ?_
            refine lv_goto (tgt := 62) hx hb d_r_add_55 (by decide) ?_
            refine ln_top (y := sumN T kj d) (by unfold sumN; first | exact (if_pos c_51).symm | exact (if_neg c_51).symm) ?_
            refine lv_istore (lv' := [(5, .int (sumN T kj d)), (4, .int (num T kj)), (0, .ref (ad 0)), (1, .int (nI cj)), (2, .int (nI kj)), (3, .int (d))]) hx hb d_r_add_62 hl (by decide) rfl (fun ls hl => ?_)
            refine lv_iload hx hb d_r_add_64 (lv_at hl 0 rfl) ?_
            refine r_calls (rest := []) S k_r_r_isNumber (c_r_isNumber l (sumN T kj d)) ⟨by decide, by decide⟩ rfl hl.1 rfl (Nat.le_of_ble_eq_true rfl) ⟨Nat.le_refl _, Nat.le_refl _⟩ d_r_add_66 ?_
            refine lb_if_ne (tgt := 75) hx hb d_r_add_69 (by decide) (fun c_69 => ?_) (fun c_69 => ?_)
            · refine lv_aload_n hx hb d_r_add_75 rfl (lv_at hl 2 rfl) ?_
              refine lv_iload_n hx hb d_r_add_76 rfl (lv_at hl 3 rfl) ?_
              refine lv_iload_n hx hb d_r_add_77 rfl (lv_at hl 4 rfl) ?_
              refine lv_iload hx hb d_r_add_78 (lv_at hl 0 rfl) ?_
              refine lv_iconst (v := nI 0) hx hb d_r_add_80 (by decide) ?_
              refine r_callv (rest := []) S hw k_r_r_change (c_r_change l cj kj (sumN T kj d) (nI 0) M U T (cn kj) hM hU (by omega) (by omega) (isB_n0) (hcn kj (by omega)).2 (hcn kj (by omega)).1) (⟨hinv2, hq2.2.2.2.1, hq2.2.2.2.2.2⟩) rfl rfl ⟨by decide, by decide⟩ rfl hl.1 rfl (Nat.le_of_ble_eq_true rfl) ⟨Nat.le_refl _, Nat.le_refl _⟩ d_r_add_81 (fun σ5 H locs hq5 hw => ?_)
              refine lv_iload hx hb d_r_add_84 (lv_at hl 0 rfl) ?_
              exact r_iret S hr hlk hw d_r_add_86 (Or.inr (Or.inr ⟨cj, kj, hcj, hkj, rfl, rfl, c_18, c_29, Or.inr ⟨c_69, rfl, hq5⟩⟩))
            · refine lv_ldc (v := (-300000)) hx hb hown (hts _ q_const_r_137) d_r_add_72 ?_
              exact r_iret S hr hlk hw d_r_add_74 (Or.inr (Or.inr ⟨cj, kj, hcj, hkj, rfl, rfl, c_18, c_29, Or.inl ⟨c_69, rfl, hinv2⟩⟩))
        · refine lv_ldc (v := (-300000)) hx hb hown (hts _ q_const_r_137) d_r_add_32 ?_
          exact r_iret S hr hlk hw d_r_add_34 (Or.inr (Or.inl ⟨⟨c_4, c_11, c_18⟩, fun h => c_29 ((mem_nI hcj).mp h), rfl, rfl⟩))
      · refine lv_ldc (v := (-100000)) hx hb hown (hts _ q_const_r_136) d_r_add_21 ?_
        exact r_iret S hr hlk hw d_r_add_23 (Or.inl ⟨fun h => by first | exact c_4 h.1 | exact c_11 h.2.1 | exact c_18 h.2.2, rfl, rfl⟩)
end
section
theorem gt_lay {σ σ0 : St} {r : Rg} (h : Lay σ0 r) (hf : ∀ x y, x ≠ 11 → x ≠ 16 → x ≠ 17 → σ x y = σ0 x y) : Lay σ r :=
  h.congr (hf 0 2 (by decide) (by decide) (by decide)) (funext fun y => hf 3 y (by decide) (by decide) (by decide)) (funext fun y => hf 4 y (by decide) (by decide) (by decide))
theorem Cf.lay {M U : Nat} {σ : St} (h : Cf M U σ) : Lay σ (layR M 24) := h.choose_spec.2.2.2.1
theorem Cf.u {M U : Nat} {σ : St} (h : Cf M U σ) : σ 0 1 = nI U := h.choose_spec.2.2.1
theorem Cf.m {M U : Nat} {σ : St} (h : Cf M U σ) : σ 0 0 = nI M := h.choose_spec.2.1
theorem Cf.congr {M U : Nat} {σ σ' : St} (h : Cf M U σ) (e0 : σ' 0 0 = σ 0 0) (e1 : σ' 0 1 = σ 0 1) (e2 : σ' 0 2 = σ 0 2) (e3 : σ' 3 = σ 3) (e4 : σ' 4 = σ 4) (e5 : σ' 0 20 = σ 0 20) : Cf M U σ' := by
  obtain ⟨ll, hl, hc⟩ := h
  exact ⟨ll, hl, hc.congr e0 e1 e2 e3 e4 e5⟩
theorem Cf.fk {M U : Nat} {σ σ' : St} (hc : Cf M U σ) (h : ∀ x y, x ≠ 11 → σ' x y = σ x y) : Cf M U σ' := hc.congr (h _ _ (by decide)) (h _ _ (by decide)) (h _ _ (by decide)) (fk_g h (by decide)) (fk_g h (by decide)) (h _ _ (by decide))
theorem Cf.ct {M U : Nat} {σ σ' : St} {r : Int32} (hc : Cf M U σ) (h : ctP σ r σ') : Cf M U σ' := by
  obtain ⟨ll, hl, hc⟩ := hc
  obtain ⟨l2, q1, q2, -⟩ := hc.ct hl h
  exact ⟨l2, by omega, q2⟩
theorem Cf.st {M U : Nat} {σ : St} (hc : Cf M U σ) (m k : Nat) : Cf M U (stF σ m k) := by
  have e : ∀ {x : Nat}, x ≠ 5 → x ≠ 6 → x ≠ 7 → stF σ m k x = σ x := fun a b c => stF_o a b c
  have e0 : stF σ m k 0 = σ 0 := e (by decide) (by decide) (by decide)
  exact hc.congr (by rw [e0]) (by rw [e0]) (by rw [e0]) (e (by decide) (by decide) (by decide)) (e (by decide) (by decide) (by decide)) (by rw [e0])
theorem CfL.st {M U ll : Nat} {σ : St} (hc : CfL M U ll σ) (m k : Nat) : CfL M U ll (stF σ m k) := by
  have e : ∀ {x : Nat}, x ≠ 5 → x ≠ 6 → x ≠ 7 → stF σ m k x = σ x := fun a b c => stF_o a b c
  have e0 : stF σ m k 0 = σ 0 := e (by decide) (by decide) (by decide)
  exact hc.congr (by rw [e0]) (by rw [e0]) (by rw [e0]) (e (by decide) (by decide) (by decide)) (e (by decide) (by decide) (by decide)) (by rw [e0])
theorem CfL.hr {M U ll : Nat} {σ : St} (hc : CfL M U ll σ) (m k : Nat) : CfL M U ll (hrF σ m k) := hc.congr (hrF_f (by decide) (by decide) (by decide)) (hrF_f (by decide) (by decide) (by decide)) (hrF_f (by decide) (by decide) (by decide)) (hrF_o (by decide)) (hrF_o (by decide)) (hrF_f (by decide) (by decide) (by decide))
/-- one machine tells another what it has -/
theorem xch {T : Tr} {σ : St} {a b k : Nat} (hd : Dat T σ) (ha : a < 6) (hb : b < 6) (hk : k < 16) : Dat T (stF (hrF (swF σ) a k) b k) ∧ Mono T σ (stF (hrF (swF σ) a k) b k) ∧ (hold T σ a k → hold T (stF (hrF (swF σ) a k) b k) b k) := by
  have d1 : Dat T (swF σ) := hd.congr rfl rfl rfl rfl rfl rfl isB_n0
  have r1 : regG T (swF σ) k := good_0 (hd.T0 hk)
  have d2 : Dat T (hrF (swF σ) a k) := hrF_dat d1
  have r2 : regG T (hrF (swF σ) a k) k := hrF_reg d1 r1 ha hk
  have e5 : (hrF (swF σ) a k) 5 = (swF σ) 5 := hrF_o (by decide)
  have e6 : (swF σ) 5 = σ 5 := rfl
  have mo : Mono T σ (hrF (swF σ) a k) := Mono.of5 (e5.trans e6)
  refine ⟨stF_dat d2 r2 hb hk, mo.tr (stF_mono r2 hk), fun h => stF_hold d2 ?_ hb hk⟩
  have g := (hrF_ge (σ := swF σ) (m := a) (k := k)).2
  have e : (swF σ) 5 (a * 16 + k) = (T k).1 := by rw [e6]; exact h
  rw [e] at g
  have := r2.2.1
  exact Int32.toInt_inj.mp (by omega)
def xcP (M U : Nat) (T : Tr) (a b k : Nat) (σ σ' : St) : Prop := Cf M U σ' ∧ Dat T σ' ∧ Mono T σ σ' ∧ (hold T σ a k ∨ hold T σ b k → hold T σ' a k ∧ hold T σ' b k)
def cmP (M U : Nat) (T : Tr) (a b : Nat) (σ σ' : St) : Prop := Cf M U σ' ∧ Dat T σ' ∧ Mono T σ σ' ∧ ∀ k, k < 16 → kpm M k a → kpm M k b → hold T σ a k ∨ hold T σ b k → hold T σ' a k ∧ hold T σ' b k
theorem gt_ok {M U : Nat} {T : Tr} {σ σ' : St} (hc : Cf M U σ) (hd : Dat T σ) (hf : ∀ x y, x ≠ 11 → x ≠ 16 → x ≠ 17 → σ' x y = σ x y) : Cf M U σ' ∧ Dat T σ' ∧ Mono T σ σ' := by
  have g : ∀ {x : Nat}, x ≠ 11 → x ≠ 16 → x ≠ 17 → σ' x = σ x := fun a b c => funext fun y => hf _ y a b c
  have e0 : σ' 0 = σ 0 := g (by decide) (by decide) (by decide)
  exact ⟨hc.congr (by rw [e0]) (by rw [e0]) (by rw [e0]) (g (by decide) (by decide) (by decide)) (g (by decide) (by decide) (by decide)) (by rw [e0]), hd.congr (g (by decide) (by decide) (by decide)) (g (by decide) (by decide) (by decide)) (g (by decide) (by decide) (by decide)) (g (by decide) (by decide) (by decide)) (g (by decide) (by decide) (by decide)) (g (by decide) (by decide) (by decide)) (by rw [e0]; exact hd.2.2.2.2), Mono.of5 (g (by decide) (by decide) (by decide))⟩

set_option maxHeartbeats 4000000 in
set_option maxRecDepth 100000 in
theorem c_r_leaf (l : Launch) (m : Nat) (b : Nat) (k : Nat) (M : Nat) (hm : m < 6) (hb6 : b < 6) (hk : k < 16) (hM : okM M) : rCi wr tr_ l y_r_leaf w_r_leaf 3 71 [.int (nI m), .int (nI b), .int (nI k)] (fun σ => Lay σ (layR M 24)) (fun σ _ σ' => ∀ x y, x ≠ 11 → σ' x y = σ x y) := by
  refine rCi.mk (b := b_r_leaf) (nL := 6) (rt := .int) R_rr (by decide) rfl (Nat.le_of_ble_eq_true rfl) ?_
  intro D ad cs σ0 hpre p e s mi args below meth c A S hr hlk hw ls hl
  have hx := S.1
  have hb := S.2.1
  have hts := S.2.2.2.2
  have hown := S.2.2.2.1
  have hl : lv_has ls 6 [(0, .ref (ad 0)), (1, .int (nI m)), (2, .int (nI b)), (3, .int (nI k))] := hl
  refine lv_iload_n hx hb d_r_leaf_0 rfl (lv_at hl 1 rfl) ?_
  refine lv_bipush (v := nI 16) hx hb d_r_leaf_1 (by decide) ?_
  refine ln_imul hx hb d_r_leaf_3 ?_
  refine lv_iload_n hx hb d_r_leaf_4 rfl (lv_at hl 3 rfl) ?_
  refine ln_iadd hx hb d_r_leaf_5 ?_
  refine lv_istore (lv' := [(4, .int (nI ((m * 16) + k))), (0, .ref (ad 0)), (1, .int (nI m)), (2, .int (nI b)), (3, .int (nI k))]) hx hb d_r_leaf_6 hl (by decide) rfl (fun ls hl => ?_)
  refine lv_aload_n hx hb d_r_leaf_8 rfl (lv_at hl 1 rfl) ?_
  refine lv_iload_n hx hb d_r_leaf_9 rfl (lv_at hl 2 rfl) ?_
  refine lv_iload_n hx hb d_r_leaf_10 rfl (lv_at hl 4 rfl) ?_
  refine r_calli (rest := []) S hw k_r_r_keeps (c_r_keeps l m k M (by omega) hM) (hpre) rfl rfl ⟨by decide, by decide⟩ rfl hl.1 rfl (Nat.le_of_ble_eq_true rfl) ⟨Nat.le_refl _, Nat.le_refl _⟩ d_r_leaf_11 (fun r1 σ1 H locs hq1 hw => ?_)
  obtain ⟨er1, hf1⟩ := hq1
  have hlay1 := (hpre).congr (hf1 0 2 (by decide)) (fk_g hf1 (by decide)) (fk_g hf1 (by decide))
  refine ln_top er1 ?_
  refine lb_if_eq (tgt := 30) hx hb d_r_leaf_14 (by decide) (fun c_14 => ?_) (fun c_14 => ?_)
  · refine lv_iconst (v := nI 0) hx hb d_r_leaf_30 (by decide) ?_
    refine lv_istore (lv' := [(5, .int (nI 0)), (4, .int (nI ((m * 16) + k))), (0, .ref (ad 0)), (1, .int (nI m)), (2, .int (nI b)), (3, .int (nI k))]) hx hb d_r_leaf_31 hl (by decide) rfl (fun ls hl => ?_)
    refine lv_iload hx hb d_r_leaf_33 (lv_at hl 0 rfl) ?_
    refine ln_if_eq (tgt := 75) hx hb d_r_leaf_35 (by decide) (by omega) (fun _ => ?_) (fun h => absurd h (by decide))
    refine lv_iconst (v := nI 0) hx hb d_r_leaf_75 (by decide) ?_
    exact r_iret S hr hlk hw d_r_leaf_76 ((fun x y h => (hf1 x y h).trans ((fun (x y : Nat) (_ : x ≠ 11) => (rfl : σ0 x y = σ0 x y)) x y h)))
  · refine lv_aload_n hx hb d_r_leaf_17 rfl (lv_at hl 1 rfl) ?_
    refine lv_iload_n hx hb d_r_leaf_18 rfl (lv_at hl 3 rfl) ?_
    refine lv_iload_n hx hb d_r_leaf_19 rfl (lv_at hl 4 rfl) ?_
    refine r_calli (rest := []) S hw k_r_r_keeps (c_r_keeps l b k M (by omega) hM) (hlay1) rfl rfl ⟨by decide, by decide⟩ rfl hl.1 rfl (Nat.le_of_ble_eq_true rfl) ⟨Nat.le_refl _, Nat.le_refl _⟩ d_r_leaf_20 (fun r2 σ2 H locs hq2 hw => ?_)
    obtain ⟨er2, hf2⟩ := hq2
    have hlay2 := (hlay1).congr (hf2 0 2 (by decide)) (fk_g hf2 (by decide)) (fk_g hf2 (by decide))
    refine ln_top er2 ?_
    refine lb_if_eq (tgt := 30) hx hb d_r_leaf_23 (by decide) (fun c_23 => ?_) (fun c_23 => ?_)
    · refine lv_iconst (v := nI 0) hx hb d_r_leaf_30 (by decide) ?_
      refine lv_istore (lv' := [(5, .int (nI 0)), (4, .int (nI ((m * 16) + k))), (0, .ref (ad 0)), (1, .int (nI m)), (2, .int (nI b)), (3, .int (nI k))]) hx hb d_r_leaf_31 hl (by decide) rfl (fun ls hl => ?_)
      refine lv_iload hx hb d_r_leaf_33 (lv_at hl 0 rfl) ?_
      refine ln_if_eq (tgt := 75) hx hb d_r_leaf_35 (by decide) (by omega) (fun _ => ?_) (fun h => absurd h (by decide))
      refine lv_iconst (v := nI 0) hx hb d_r_leaf_75 (by decide) ?_
      exact r_iret S hr hlk hw d_r_leaf_76 ((fun x y h => (hf2 x y h).trans ((fun x y h => (hf1 x y h).trans ((fun (x y : Nat) (_ : x ≠ 11) => (rfl : σ0 x y = σ0 x y)) x y h)) x y h)))
    · refine lv_iconst (v := nI 1) hx hb d_r_leaf_26 (by decide) ?_
      refine lv_goto (tgt := 31) hx hb d_r_leaf_27 (by decide) ?_
      refine lv_istore (lv' := [(5, .int (nI 1)), (4, .int (nI ((m * 16) + k))), (0, .ref (ad 0)), (1, .int (nI m)), (2, .int (nI b)), (3, .int (nI k))]) hx hb d_r_leaf_31 hl (by decide) rfl (fun ls hl => ?_)
      refine lv_iload hx hb d_r_leaf_33 (lv_at hl 0 rfl) ?_
      refine ln_if_eq (tgt := 75) hx hb d_r_leaf_35 (by decide) (by omega) (fun h => absurd h (by decide)) (fun _ => ?_)
      refine lv_aload_n hx hb d_r_leaf_38 rfl (lv_at hl 2 rfl) ?_
      refine rg_5 S hw d_r_leaf_39 ?_
      refine lv_iload hx hb d_r_leaf_42 (lv_at hl 1 rfl) ?_
      refine rl_5 S hw d_r_leaf_44 (by omega) ?_
      refine lv_if_le (tgt := 75) hx hb d_r_leaf_45 (by decide) (fun c_45 => ?_) (fun c_45 => ?_)
      · refine lv_iconst (v := nI 0) hx hb d_r_leaf_75 (by decide) ?_
        exact r_iret S hr hlk hw d_r_leaf_76 ((fun x y h => (hf2 x y h).trans ((fun x y h => (hf1 x y h).trans ((fun (x y : Nat) (_ : x ≠ 11) => (rfl : σ0 x y = σ0 x y)) x y h)) x y h)))
      · refine lv_aload_n hx hb d_r_leaf_48 rfl (lv_at hl 2 rfl) ?_
        refine rg_5 S hw d_r_leaf_49 ?_
        refine lv_iload hx hb d_r_leaf_52 (lv_at hl 1 rfl) ?_
        refine rl_5 S hw d_r_leaf_54 (by omega) ?_
        refine lv_aload_n hx hb d_r_leaf_55 rfl (lv_at hl 2 rfl) ?_
        refine rg_6 S hw d_r_leaf_56 ?_
        refine lv_iload hx hb d_r_leaf_59 (lv_at hl 1 rfl) ?_
        refine rl_6 S hw d_r_leaf_61 (by omega) ?_
        refine lv_aload_n hx hb d_r_leaf_62 rfl (lv_at hl 2 rfl) ?_
        refine rg_7 S hw d_r_leaf_63 ?_
        refine lv_iload hx hb d_r_leaf_66 (lv_at hl 1 rfl) ?_
        refine rl_7 S hw d_r_leaf_68 (by omega) ?_
        refine r_calls (rest := []) S k_r_r_sumOf (c_r_sumOf l (σ2 5 ((m * 16) + k)) (σ2 6 ((m * 16) + k)) (σ2 7 ((m * 16) + k))) ⟨by decide, by decide⟩ rfl hl.1 rfl (Nat.le_of_ble_eq_true rfl) ⟨Nat.le_refl _, Nat.le_refl _⟩ d_r_leaf_69 ?_
        refine lv_goto (tgt := 76) hx hb d_r_leaf_72 (by decide) ?_
        exact r_iret S hr hlk hw d_r_leaf_76 ((fun x y h => (hf2 x y h).trans ((fun x y h => (hf1 x y h).trans ((fun (x y : Nat) (_ : x ≠ 11) => (rfl : σ0 x y = σ0 x y)) x y h)) x y h)))

set_option maxHeartbeats 4000000 in
set_option maxRecDepth 100000 in
theorem c_r_growTrees (l : Launch) (a : Nat) (b : Nat) (M : Nat) (ha6 : a < 6) (hb6 : b < 6) (hM : okM M) : rCv wr tr_ l y_r_growTrees w_r_growTrees 4 96 [.int (nI a), .int (nI b)] (fun σ => Lay σ (layR M 24)) (fun σ σ' => ∀ x y, x ≠ 11 → x ≠ 16 → x ≠ 17 → σ' x y = σ x y) := by
  refine rCv.mk (b := b_r_growTrees) (nL := 4) R_rr (by decide) rfl (Nat.le_of_ble_eq_true rfl) ?_
  intro D ad cs σ0 hpre p e s mi args below meth c A S hr hlk hw ls hl
  have hx := S.1
  have hb := S.2.1
  have hts := S.2.2.2.2
  have hown := S.2.2.2.1
  have hl : lv_has ls 4 [(0, .ref (ad 0)), (1, .int (nI a)), (2, .int (nI b))] := hl
  refine lv_iconst (v := nI 0) hx hb d_r_growTrees_0 (by decide) ?_
  refine lv_istore_n (lv' := [(3, .int (nI 0)), (0, .ref (ad 0)), (1, .int (nI a)), (2, .int (nI b))]) hx hb d_r_growTrees_1 rfl hl (by decide) rfl (fun ls hl => ?_)
  have L2 : ∀ (n : Nat) (k : Nat) (σ : St) (H : Heap) (locs : List Loc) (ls : Array Slot), k ≤ 16 → 17 ≤ k + n → (∀ x y, x ≠ 11 → x ≠ 16 → x ≠ 17 → σ x y = σ0 x y) → rW wr tr_ D ad cs A s σ H locs → lv_has ls 4 [(0, .ref (ad 0)), (1, .int (nI a)), (2, .int (nI b)), (3, .int (nI k))] → W p l e { frames := 4, cells := 0, slots := 0, locals := 96 } s mi args below meth c H locs 0 0 (MQ below (va_Qv ((fun σ σ' => ∀ x y, x ≠ 11 → x ≠ 16 → x ≠ 17 → σ' x y = σ x y) σ0) (rB wr tr_ D ad cs A) A) args s 0 0 A) (F0 mi 2 ls []) := by
    intro n
    induction n with
    | zero =>
      intro k σ H locs ls hk hn hfr hw hl
      omega
    | succ n ih2 =>
      intro k σ H locs ls hk hn hfr hw hl
      refine lv_iload_n hx hb d_r_growTrees_2 rfl (lv_at hl 3 rfl) ?_
      refine lv_bipush (v := nI 16) hx hb d_r_growTrees_3 (by decide) ?_
      refine ln_icmp_ge (tgt := 46) hx hb d_r_growTrees_5 (by decide) (⟨by omega, by omega⟩) (fun c_5 => ?_) (fun c_5 => ?_)
      · refine lv_bipush (v := nI 14) hx hb d_r_growTrees_46 (by decide) ?_
        refine ln_top (show nI 14 = nI 15 + (-1) from by decide) ?_
        refine lv_istore_n (lv' := [(3, .int (nI 15 + (-1))), (0, .ref (ad 0)), (1, .int (nI a)), (2, .int (nI b))]) hx hb d_r_growTrees_48 rfl hl (by decide) rfl (fun ls hl => ?_)
        have L49 : ∀ (n : Nat) (i : Nat) (σ : St) (H : Heap) (locs : List Loc) (ls : Array Slot), i ≤ 15 → i < n → (∀ x y, x ≠ 11 → x ≠ 16 → x ≠ 17 → σ x y = σ0 x y) → rW wr tr_ D ad cs A s σ H locs → lv_has ls 4 [(0, .ref (ad 0)), (1, .int (nI a)), (2, .int (nI b)), (3, .int (nI i + (-1)))] → W p l e { frames := 4, cells := 0, slots := 0, locals := 96 } s mi args below meth c H locs 0 0 (MQ below (va_Qv ((fun σ σ' => ∀ x y, x ≠ 11 → x ≠ 16 → x ≠ 17 → σ' x y = σ x y) σ0) (rB wr tr_ D ad cs A) A) args s 0 0 A) (F0 mi 49 ls []) := by
          intro n
          induction n with
          | zero =>
            intro i σ H locs ls hi hn hfr hw hl
            omega
          | succ n ih49 =>
            intro i σ H locs ls hi hn hfr hw hl
            refine lv_iload_n hx hb d_r_growTrees_49 rfl (lv_at hl 3 rfl) ?_
            refine lv_if_lt (tgt := 119) hx hb d_r_growTrees_50 (by decide) (fun c_50 => ?_) (fun c_50 => ?_)
            · exact r_vret S hr hlk hw d_r_growTrees_119 (hfr)
            · have hi0 : 0 < i := Nat.pos_of_ne_zero (fun z => c_50 (by rw [z]; decide))
              rw [sb_m1 hi0] at hl
              refine lv_aload_n hx hb d_r_growTrees_53 rfl (lv_at hl 0 rfl) ?_
              refine rg_16 S hw d_r_growTrees_54 ?_
              refine lv_iload_n hx hb d_r_growTrees_57 rfl (lv_at hl 3 rfl) ?_
              refine lv_aload_n hx hb d_r_growTrees_58 rfl (lv_at hl 0 rfl) ?_
              refine rg_16 S hw d_r_growTrees_59 ?_
              refine lv_iconst (v := nI 2) hx hb d_r_growTrees_62 (by decide) ?_
              refine lv_iload_n hx hb d_r_growTrees_63 rfl (lv_at hl 3 rfl) ?_
              refine ln_imul hx hb d_r_growTrees_64 ?_
              refine lv_iconst (v := nI 1) hx hb d_r_growTrees_65 (by decide) ?_
              refine ln_iadd hx hb d_r_growTrees_66 ?_
              refine rl_16 S hw d_r_growTrees_67 (by omega) ?_
              refine lv_ldc (v := (1000003)) hx hb hown (hts _ q_const_r_160) d_r_growTrees_68 ?_
              refine lv_imul hx hb d_r_growTrees_70 ?_
              refine lv_aload_n hx hb d_r_growTrees_71 rfl (lv_at hl 0 rfl) ?_
              refine rg_16 S hw d_r_growTrees_72 ?_
              refine lv_iconst (v := nI 2) hx hb d_r_growTrees_75 (by decide) ?_
              refine lv_iload_n hx hb d_r_growTrees_76 rfl (lv_at hl 3 rfl) ?_
              refine ln_imul hx hb d_r_growTrees_77 ?_
              refine lv_iconst (v := nI 2) hx hb d_r_growTrees_78 (by decide) ?_
              refine ln_iadd hx hb d_r_growTrees_79 ?_
              refine rl_16 S hw d_r_growTrees_80 (by omega) ?_
              refine lv_iadd hx hb d_r_growTrees_81 ?_
              refine rs_16 S hw d_r_growTrees_82 (by omega) (fun H locs hw => ?_)
              refine lv_aload_n hx hb d_r_growTrees_83 rfl (lv_at hl 0 rfl) ?_
              refine rg_17 S hw d_r_growTrees_84 ?_
              refine lv_iload_n hx hb d_r_growTrees_87 rfl (lv_at hl 3 rfl) ?_
              refine lv_aload_n hx hb d_r_growTrees_88 rfl (lv_at hl 0 rfl) ?_
              refine rg_17 S hw d_r_growTrees_89 ?_
              refine lv_iconst (v := nI 2) hx hb d_r_growTrees_92 (by decide) ?_
              refine lv_iload_n hx hb d_r_growTrees_93 rfl (lv_at hl 3 rfl) ?_
              refine ln_imul hx hb d_r_growTrees_94 ?_
              refine lv_iconst (v := nI 1) hx hb d_r_growTrees_95 (by decide) ?_
              refine ln_iadd hx hb d_r_growTrees_96 ?_
              refine rl_17 S hw d_r_growTrees_97 (by omega) ?_
              refine lv_ldc (v := (1000003)) hx hb hown (hts _ q_const_r_160) d_r_growTrees_98 ?_
              refine lv_imul hx hb d_r_growTrees_100 ?_
              refine lv_aload_n hx hb d_r_growTrees_101 rfl (lv_at hl 0 rfl) ?_
              refine rg_17 S hw d_r_growTrees_102 ?_
              refine lv_iconst (v := nI 2) hx hb d_r_growTrees_105 (by decide) ?_
              refine lv_iload_n hx hb d_r_growTrees_106 rfl (lv_at hl 3 rfl) ?_
              refine ln_imul hx hb d_r_growTrees_107 ?_
              refine lv_iconst (v := nI 2) hx hb d_r_growTrees_108 (by decide) ?_
              refine ln_iadd hx hb d_r_growTrees_109 ?_
              refine rl_17 S hw d_r_growTrees_110 (by omega) ?_
              refine lv_iadd hx hb d_r_growTrees_111 ?_
              refine rs_17 S hw d_r_growTrees_112 (by omega) (fun H locs hw => ?_)
              refine lv_iinc (v := nI (i - 1) + (-1)) (lv' := [(3, .int (nI (i - 1) + (-1))), (0, .ref (ad 0)), (1, .int (nI a)), (2, .int (nI b))]) hx hb d_r_growTrees_113 hl (k := 3) rfl (by rw [show Int32.ofInt (-1) = (-1 : Int32) from by decide]) (by decide) rfl (fun ls hl => ?_)
              refine lv_goto (tgt := 49) hx hb d_r_growTrees_116 (by decide) ?_
              exact ih49 (i - 1) (up2 (up2 σ 16 (i - 1) (((σ 16 ((2 * (i - 1)) + 1)) * ((1000003))) + (σ 16 ((2 * (i - 1)) + 2)))) 17 (i - 1) ((((up2 σ 16 (i - 1) (((σ 16 ((2 * (i - 1)) + 1)) * ((1000003))) + (σ 16 ((2 * (i - 1)) + 2)))) 17 ((2 * (i - 1)) + 1)) * ((1000003))) + ((up2 σ 16 (i - 1) (((σ 16 ((2 * (i - 1)) + 1)) * ((1000003))) + (σ 16 ((2 * (i - 1)) + 2)))) 17 ((2 * (i - 1)) + 2)))) _ _ _ (by omega) (by omega) (fun x y h1 h2 h3 => by rw [up2_g h3, up2_g h2]; exact hfr x y h1 h2 h3) hw (lv_sub hl [1, 2, 3, 0] rfl)
        exact L49 16 (15) σ _ _ _ (by omega) (by omega) hfr hw (lv_sub hl [1, 2, 3, 0] rfl)
      · refine lv_aload_n hx hb d_r_growTrees_8 rfl (lv_at hl 0 rfl) ?_
        refine rg_16 S hw d_r_growTrees_9 ?_
        refine lv_bipush (v := nI 15) hx hb d_r_growTrees_12 (by decide) ?_
        refine lv_iload_n hx hb d_r_growTrees_14 rfl (lv_at hl 3 rfl) ?_
        refine ln_iadd hx hb d_r_growTrees_15 ?_
        refine lv_aload_n hx hb d_r_growTrees_16 rfl (lv_at hl 0 rfl) ?_
        refine lv_iload_n hx hb d_r_growTrees_17 rfl (lv_at hl 1 rfl) ?_
        refine lv_iload_n hx hb d_r_growTrees_18 rfl (lv_at hl 2 rfl) ?_
        refine lv_iload_n hx hb d_r_growTrees_19 rfl (lv_at hl 3 rfl) ?_
        refine r_calli (rest := [.int (nI (15 + k)), .ref (ad 16)]) S hw k_r_r_leaf (c_r_leaf l a b k M (by omega) (by omega) (by omega) hM) ((gt_lay hpre hfr)) rfl rfl ⟨by decide, by decide⟩ rfl hl.1 rfl (Nat.le_of_ble_eq_true rfl) ⟨Nat.le_refl _, Nat.le_refl _⟩ d_r_growTrees_20 (fun r1 σ1 H locs hq1 hw => ?_)
        have hfr1 : ∀ x y, x ≠ 11 → x ≠ 16 → x ≠ 17 → σ1 x y = σ0 x y := fun x y h1 h2 h3 => (hq1 x y h1).trans (hfr x y h1 h2 h3)
        refine rs_16 S hw d_r_growTrees_23 (by omega) (fun H locs hw => ?_)
        have hfs2 : ∀ x y, x ≠ 11 → x ≠ 16 → x ≠ 17 → (up2 σ1 16 (15 + k) (r1)) x y = σ0 x y := fun x y h1 h2 h3 => by rw [up2_g h2]; exact hfr1 x y h1 h2 h3
        refine lv_aload_n hx hb d_r_growTrees_24 rfl (lv_at hl 0 rfl) ?_
        refine rg_17 S hw d_r_growTrees_25 ?_
        refine lv_bipush (v := nI 15) hx hb d_r_growTrees_28 (by decide) ?_
        refine lv_iload_n hx hb d_r_growTrees_30 rfl (lv_at hl 3 rfl) ?_
        refine ln_iadd hx hb d_r_growTrees_31 ?_
        refine lv_aload_n hx hb d_r_growTrees_32 rfl (lv_at hl 0 rfl) ?_
        refine lv_iload_n hx hb d_r_growTrees_33 rfl (lv_at hl 2 rfl) ?_
        refine lv_iload_n hx hb d_r_growTrees_34 rfl (lv_at hl 1 rfl) ?_
        refine lv_iload_n hx hb d_r_growTrees_35 rfl (lv_at hl 3 rfl) ?_
        refine r_calli (rest := [.int (nI (15 + k)), .ref (ad 17)]) S hw k_r_r_leaf (c_r_leaf l b a k M (by omega) (by omega) (by omega) hM) ((gt_lay hpre hfs2)) rfl rfl ⟨by decide, by decide⟩ rfl hl.1 rfl (Nat.le_of_ble_eq_true rfl) ⟨Nat.le_refl _, Nat.le_refl _⟩ d_r_growTrees_36 (fun r3 σ3 H locs hq3 hw => ?_)
        have hfr3 : ∀ x y, x ≠ 11 → x ≠ 16 → x ≠ 17 → σ3 x y = σ0 x y := fun x y h1 h2 h3 => (hq3 x y h1).trans (hfs2 x y h1 h2 h3)
        refine rs_17 S hw d_r_growTrees_39 (by omega) (fun H locs hw => ?_)
        refine ln_iinc (lv' := [(3, .int (nI (k + 1))), (0, .ref (ad 0)), (1, .int (nI a)), (2, .int (nI b))]) hx hb d_r_growTrees_40 hl (k := 3) rfl rfl (by decide) rfl (fun ls hl => ?_)
        refine lv_goto (tgt := 2) hx hb d_r_growTrees_43 (by decide) ?_
        exact ih2 (k + 1) (up2 σ3 17 (15 + k) (r3)) _ _ _ (by omega) (by omega) (fun x y h1 h2 h3 => by rw [up2_g h3]; exact hfr3 x y h1 h2 h3) hw (lv_sub hl [1, 2, 3, 0] rfl)
  exact L2 17 (0) σ0 _ _ _ (by omega) (by omega) (fun _ _ _ _ _ => rfl) hw (lv_sub hl [1, 2, 3, 0] rfl)

set_option maxHeartbeats 4000000 in
set_option maxRecDepth 100000 in
theorem c_r_exchange (l : Launch) (a : Nat) (b : Nat) (k : Nat) (M : Nat) (U : Nat) (T : Tr) (ha6 : a < 6) (hb6 : b < 6) (hk : k < 16) : rCv wr tr_ l y_r_exchange w_r_exchange 1 23 [.int (nI a), .int (nI b), .int (nI k)] (fun σ => Cf M U σ ∧ Dat T σ) (xcP M U T a b k) := by
  refine rCv.mk (b := b_r_exchange) (nL := 7) R_rr (by decide) rfl (Nat.le_of_ble_eq_true rfl) ?_
  intro D ad cs σ0 ⟨⟨ll0, hll0, hcf⟩, hdat⟩ p e s mi args below meth c A S hr hlk hw ls hl
  have hx := S.1
  have hb := S.2.1
  have hts := S.2.2.2.2
  have hown := S.2.2.2.1
  have hl : lv_has ls 7 [(0, .ref (ad 0)), (1, .int (nI a)), (2, .int (nI b)), (3, .int (nI k))] := hl
  refine lv_iconst (v := nI 0) hx hb d_r_exchange_0 (by decide) ?_
  refine lv_istore (lv' := [(4, .int (nI 0)), (0, .ref (ad 0)), (1, .int (nI a)), (2, .int (nI b)), (3, .int (nI k))]) hx hb d_r_exchange_1 hl (by decide) rfl (fun ls hl => ?_)
  refine lv_iconst (v := nI 0) hx hb d_r_exchange_3 (by decide) ?_
  refine lv_istore (lv' := [(5, .int (nI 0)), (4, .int (nI 0)), (0, .ref (ad 0)), (1, .int (nI a)), (2, .int (nI b)), (3, .int (nI k))]) hx hb d_r_exchange_4 hl (by decide) rfl (fun ls hl => ?_)
  refine lv_iconst (v := nI 0) hx hb d_r_exchange_6 (by decide) ?_
  refine lv_istore (lv' := [(6, .int (nI 0)), (5, .int (nI 0)), (4, .int (nI 0)), (0, .ref (ad 0)), (1, .int (nI a)), (2, .int (nI b)), (3, .int (nI k))]) hx hb d_r_exchange_7 hl (by decide) rfl (fun ls hl => ?_)
  have L9 : ∀ (n : Nat) (rd : Nat) (ll : Nat) (t0 : Nat) (b0 : Nat) (σ : St) (H : Heap) (locs : List Loc) (ls : Array Slot), rd + ll + 2 ≤ 32 + t0 + b0 → 35 ≤ rd + n → t0 ≤ 1 → b0 ≤ 1 → ll ≤ 30 → CfL M U ll σ → Dat T σ → Mono T σ0 σ → (t0 = 1 → hold T σ0 a k → hold T σ b k) → (b0 = 1 → hold T σ0 b k → hold T σ a k) → rW wr tr_ D ad cs A s σ H locs → lv_has ls 7 [(0, .ref (ad 0)), (1, .int (nI a)), (2, .int (nI b)), (3, .int (nI k)), (4, .int (nI t0)), (5, .int (nI b0)), (6, .int (nI rd))] → W p l e { frames := 1, cells := 0, slots := 0, locals := 23 } s mi args below meth c H locs 0 0 (MQ below (va_Qv ((xcP M U T a b k) σ0) (rB wr tr_ D ad cs A) A) args s 0 0 A) (F0 mi 9 ls []) := by
    intro n
    induction n with
    | zero =>
      intro rd ll t0 b0 σ H locs ls hrd hn ht0 hb0 hll hc0 hd0 hmo0 hh0 hg0 hw hl
      omega
    | succ n ih9 =>
      intro rd ll t0 b0 σ H locs ls hrd hn ht0 hb0 hll hc0 hd0 hmo0 hh0 hg0 hw hl
      have L59 : ∀ (ll2 : Nat) (t2 : Nat) (σ : St) (H : Heap) (locs : List Loc) (ls : Array Slot), t2 ≤ 1 → ll2 ≤ ll → ll2 + t0 ≤ ll + t2 → (t0 = 0 → ll2 + t0 < ll + t2) → CfL M U ll2 σ → Dat T σ → Mono T σ0 σ → (t2 = 1 → hold T σ0 a k → hold T σ b k) → (b0 = 1 → hold T σ0 b k → hold T σ a k) → t0 = 0 ∨ b0 = 0 → rW wr tr_ D ad cs A s σ H locs → lv_has ls 7 [(0, .ref (ad 0)), (1, .int (nI a)), (2, .int (nI b)), (3, .int (nI k)), (4, .int (nI t2)), (5, .int (nI b0)), (6, .int (nI rd))] → W p l e { frames := 1, cells := 0, slots := 0, locals := 23 } s mi args below meth c H locs 0 0 (MQ below (va_Qv ((xcP M U T a b k) σ0) (rB wr tr_ D ad cs A) A) args s 0 0 A) (F0 mi 59 ls []) := by
        intro ll2 t2 σ H locs ls ht2 hl2 hp1 hp2 hc2 hd2 hmo2 hh2 hg2 hnb hw hl
        refine lv_iload hx hb d_r_exchange_59 (lv_at hl 5 rfl) ?_
        refine ln_if_ne (tgt := 92) hx hb d_r_exchange_61 (by decide) (by omega) (fun c_61 => ?_) (fun c_61 => ?_)
        · refine ln_iinc (lv' := [(6, .int (nI (rd + 1))), (0, .ref (ad 0)), (1, .int (nI a)), (2, .int (nI b)), (3, .int (nI k)), (4, .int (nI t2)), (5, .int (nI b0))]) hx hb d_r_exchange_92 hl (k := 6) rfl rfl (by decide) rfl (fun ls hl => ?_)
          refine lv_goto (tgt := 9) hx hb d_r_exchange_95 (by decide) ?_
          exact ih9 (rd + 1) (ll2) (t2) (b0) σ _ _ _ (by omega) (by omega) ht2 hb0 (by omega) hc2 hd2 hmo2 hh2 hg2 hw (lv_sub hl [1, 2, 3, 4, 5, 6, 0] rfl)
        · refine lv_aload_n hx hb d_r_exchange_64 rfl (lv_at hl 0 rfl) ?_
          refine lv_iload_n hx hb d_r_exchange_65 rfl (lv_at hl 2 rfl) ?_
          refine lv_iload_n hx hb d_r_exchange_66 rfl (lv_at hl 1 rfl) ?_
          refine r_calli (rest := []) S hw k_r_r_comesThrough (c_r_comesThrough l (nI b) (nI a)) (trivial) rfl rfl ⟨by decide, by decide⟩ rfl hl.1 rfl (Nat.le_of_ble_eq_true rfl) ⟨Nat.le_refl _, Nat.le_refl _⟩ d_r_exchange_67 (fun r1 σ1 H locs hq1 hw => ?_)
          obtain ⟨l1, hl1, hc1, hz1⟩ := (hc2).ct (by omega) hq1
          have hd1 := (hd2).ct hq1
          have hm1 := Mono.of5 (T := T) (ct_g hq1 (show 5 ≠ 0 by decide))
          refine lv_if_eq (tgt := 92) hx hb d_r_exchange_70 (by decide) (fun c_70 => ?_) (fun c_70 => ?_)
          · refine ln_iinc (lv' := [(6, .int (nI (rd + 1))), (0, .ref (ad 0)), (1, .int (nI a)), (2, .int (nI b)), (3, .int (nI k)), (4, .int (nI t2)), (5, .int (nI b0))]) hx hb d_r_exchange_92 hl (k := 6) rfl rfl (by decide) rfl (fun ls hl => ?_)
            refine lv_goto (tgt := 9) hx hb d_r_exchange_95 (by decide) ?_
            exact ih9 (rd + 1) (l1) (t2) (b0) σ1 _ _ _ (by have := hz1 c_70; omega) (by omega) ht2 hb0 (by omega) hc1 hd1 (hmo2.tr hm1) (fun h q => hm1 _ hb6 k hk (hh2 h q)) (fun h q => hm1 _ ha6 k hk (hg2 h q)) hw (lv_sub hl [1, 2, 3, 4, 5, 6, 0] rfl)
          · refine lv_aload_n hx hb d_r_exchange_73 rfl (lv_at hl 0 rfl) ?_
            refine r_callv (rest := []) S hw k_r_r_startWork (c_r_startWork l) (trivial) rfl rfl ⟨by decide, by decide⟩ rfl hl.1 rfl (Nat.le_of_ble_eq_true rfl) ⟨Nat.le_refl _, Nat.le_refl _⟩ d_r_exchange_74 (fun σ2 H locs hq2 hw => ?_)
            rw [hq2] at hw
            refine lv_aload_n hx hb d_r_exchange_77 rfl (lv_at hl 0 rfl) ?_
            refine lv_iload_n hx hb d_r_exchange_78 rfl (lv_at hl 2 rfl) ?_
            refine lv_iload_n hx hb d_r_exchange_79 rfl (lv_at hl 3 rfl) ?_
            refine r_callv (rest := []) S hw k_r_r_hear (c_r_hear l b k (by omega) (by omega)) ((show Dat T (swF _) from hd1.congr rfl rfl rfl rfl rfl rfl isB_n0).2.2.1 _) rfl rfl ⟨by decide, by decide⟩ rfl hl.1 rfl (Nat.le_of_ble_eq_true rfl) ⟨Nat.le_refl _, Nat.le_refl _⟩ d_r_exchange_80 (fun σ3 H locs hq3 hw => ?_)
            rw [hq3] at hw
            refine lv_aload_n hx hb d_r_exchange_83 rfl (lv_at hl 0 rfl) ?_
            refine lv_iload_n hx hb d_r_exchange_84 rfl (lv_at hl 1 rfl) ?_
            refine lv_iload_n hx hb d_r_exchange_85 rfl (lv_at hl 3 rfl) ?_
            refine r_callv (rest := []) S hw k_r_r_store (c_r_store l a k (by omega) (by omega)) ((hrF_dat (show Dat T (swF _) from hd1.congr rfl rfl rfl rfl rfl rfl isB_n0)).2.2.2.2) rfl rfl ⟨by decide, by decide⟩ rfl hl.1 rfl (Nat.le_of_ble_eq_true rfl) ⟨Nat.le_refl _, Nat.le_refl _⟩ d_r_exchange_86 (fun σ4 H locs hq4 hw => ?_)
            rw [hq4] at hw
            refine lv_iconst (v := nI 1) hx hb d_r_exchange_89 (by decide) ?_
            refine lv_istore (lv' := [(5, .int (nI 1)), (0, .ref (ad 0)), (1, .int (nI a)), (2, .int (nI b)), (3, .int (nI k)), (4, .int (nI t2)), (6, .int (nI rd))]) hx hb d_r_exchange_90 hl (by decide) rfl (fun ls hl => ?_)
            refine ln_iinc (lv' := [(6, .int (nI (rd + 1))), (5, .int (nI 1)), (0, .ref (ad 0)), (1, .int (nI a)), (2, .int (nI b)), (3, .int (nI k)), (4, .int (nI t2))]) hx hb d_r_exchange_92 hl (k := 6) rfl rfl (by decide) rfl (fun ls hl => ?_)
            refine lv_goto (tgt := 9) hx hb d_r_exchange_95 (by decide) ?_
            have hx := xch hd1 hb6 ha6 hk
            exact ih9 (rd + 1) (l1) (t2) (1) (stF (hrF (swF σ1) b k) a k) _ _ _ (by omega) (by omega) ht2 (by omega) (by omega) (((show CfL M U _ (swF _) from hc1.congr rfl rfl rfl rfl rfl rfl).hr b k).st a k) hx.1 ((hmo2.tr hm1).tr hx.2.1) (fun h q => hx.2.1 _ hb6 k hk (hm1 _ hb6 k hk (hh2 h q))) (fun _ q => hx.2.2 (hm1 _ hb6 k hk (hmo2 _ hb6 k hk q))) hw (lv_sub hl [2, 3, 4, 5, 6, 1, 0] rfl)
      refine lv_iload hx hb d_r_exchange_9 (lv_at hl 6 rfl) ?_
      refine lv_bipush (v := nI 80) hx hb d_r_exchange_11 (by decide) ?_
      refine ln_icmp_ge (tgt := 98) hx hb d_r_exchange_13 (by decide) (⟨by omega, by omega⟩) (fun c_13 => absurd c_13 (by omega)) (fun c_13 => ?_)
      refine lv_iload hx hb d_r_exchange_16 (lv_at hl 4 rfl) ?_
      refine ln_if_eq (tgt := 26) hx hb d_r_exchange_18 (by decide) (by omega) (fun c_18 => ?_) (fun c_18 => ?_)
      · refine lv_iload hx hb d_r_exchange_26 (lv_at hl 4 rfl) ?_
        refine ln_if_ne (tgt := 59) hx hb d_r_exchange_28 (by decide) (by omega) (fun c_28 => ?_) (fun c_28 => ?_)
        · exact L59 (ll) (t0) σ _ _ _ (by omega) (by omega) (by omega) (by omega) hc0 hd0 hmo0 hh0 hg0 (by omega) hw (lv_sub hl [0, 1, 2, 3, 4, 5, 6] rfl)
        · refine lv_aload_n hx hb d_r_exchange_31 rfl (lv_at hl 0 rfl) ?_
          refine lv_iload_n hx hb d_r_exchange_32 rfl (lv_at hl 1 rfl) ?_
          refine lv_iload_n hx hb d_r_exchange_33 rfl (lv_at hl 2 rfl) ?_
          refine r_calli (rest := []) S hw k_r_r_comesThrough (c_r_comesThrough l (nI a) (nI b)) (trivial) rfl rfl ⟨by decide, by decide⟩ rfl hl.1 rfl (Nat.le_of_ble_eq_true rfl) ⟨Nat.le_refl _, Nat.le_refl _⟩ d_r_exchange_34 (fun r5 σ5 H locs hq5 hw => ?_)
          obtain ⟨l5, hl5, hc5, hz5⟩ := (hc0).ct (by omega) hq5
          have hd5 := (hd0).ct hq5
          have hm5 := Mono.of5 (T := T) (ct_g hq5 (show 5 ≠ 0 by decide))
          refine lv_if_eq (tgt := 59) hx hb d_r_exchange_37 (by decide) (fun c_37 => ?_) (fun c_37 => ?_)
          · exact L59 (l5) (t0) σ5 _ _ _ (by omega) (by omega) (by omega) (by have := hz5 c_37; omega) hc5 hd5 (hmo0.tr hm5) (fun h q => hm5 _ hb6 k hk (hh0 h q)) (fun h q => hm5 _ ha6 k hk (hg0 h q)) (by omega) hw (lv_sub hl [0, 1, 2, 3, 4, 5, 6] rfl)
          · refine lv_aload_n hx hb d_r_exchange_40 rfl (lv_at hl 0 rfl) ?_
            refine r_callv (rest := []) S hw k_r_r_startWork (c_r_startWork l) (trivial) rfl rfl ⟨by decide, by decide⟩ rfl hl.1 rfl (Nat.le_of_ble_eq_true rfl) ⟨Nat.le_refl _, Nat.le_refl _⟩ d_r_exchange_41 (fun σ6 H locs hq6 hw => ?_)
            rw [hq6] at hw
            refine lv_aload_n hx hb d_r_exchange_44 rfl (lv_at hl 0 rfl) ?_
            refine lv_iload_n hx hb d_r_exchange_45 rfl (lv_at hl 1 rfl) ?_
            refine lv_iload_n hx hb d_r_exchange_46 rfl (lv_at hl 3 rfl) ?_
            refine r_callv (rest := []) S hw k_r_r_hear (c_r_hear l a k (by omega) (by omega)) ((show Dat T (swF _) from hd5.congr rfl rfl rfl rfl rfl rfl isB_n0).2.2.1 _) rfl rfl ⟨by decide, by decide⟩ rfl hl.1 rfl (Nat.le_of_ble_eq_true rfl) ⟨Nat.le_refl _, Nat.le_refl _⟩ d_r_exchange_47 (fun σ7 H locs hq7 hw => ?_)
            rw [hq7] at hw
            refine lv_aload_n hx hb d_r_exchange_50 rfl (lv_at hl 0 rfl) ?_
            refine lv_iload_n hx hb d_r_exchange_51 rfl (lv_at hl 2 rfl) ?_
            refine lv_iload_n hx hb d_r_exchange_52 rfl (lv_at hl 3 rfl) ?_
            refine r_callv (rest := []) S hw k_r_r_store (c_r_store l b k (by omega) (by omega)) ((hrF_dat (show Dat T (swF _) from hd5.congr rfl rfl rfl rfl rfl rfl isB_n0)).2.2.2.2) rfl rfl ⟨by decide, by decide⟩ rfl hl.1 rfl (Nat.le_of_ble_eq_true rfl) ⟨Nat.le_refl _, Nat.le_refl _⟩ d_r_exchange_53 (fun σ8 H locs hq8 hw => ?_)
            rw [hq8] at hw
            refine lv_iconst (v := nI 1) hx hb d_r_exchange_56 (by decide) ?_
            refine lv_istore (lv' := [(4, .int (nI 1)), (0, .ref (ad 0)), (1, .int (nI a)), (2, .int (nI b)), (3, .int (nI k)), (5, .int (nI b0)), (6, .int (nI rd))]) hx hb d_r_exchange_57 hl (by decide) rfl (fun ls hl => ?_)
            have hx := xch hd5 ha6 hb6 hk
            exact L59 (l5) (1) (stF (hrF (swF σ5) a k) b k) _ _ _ (by omega) (by omega) (by omega) (by omega) (((show CfL M U _ (swF _) from hc5.congr rfl rfl rfl rfl rfl rfl).hr a k).st b k) hx.1 ((hmo0.tr hm5).tr hx.2.1) (fun _ q => hx.2.2 (hm5 _ ha6 k hk (hmo0 _ ha6 k hk q))) (fun h q => hx.2.1 _ ha6 k hk (hm5 _ ha6 k hk (hg0 h q))) (by omega) hw (lv_sub hl [1, 2, 3, 4, 0, 5, 6] rfl)
      · refine lv_iload hx hb d_r_exchange_21 (lv_at hl 5 rfl) ?_
        refine ln_if_ne (tgt := 98) hx hb d_r_exchange_23 (by decide) (by omega) (fun c_23 => ?_) (fun c_23 => ?_)
        · exact r_vret S hr hlk hw d_r_exchange_98 (⟨⟨ll, hll, hc0⟩, hd0, hmo0, fun h => ⟨h.elim (fun q => hmo0 _ ha6 k hk q) (fun q => hg0 (by omega) q), h.elim (fun q => hh0 (by omega) q) (fun q => hmo0 _ hb6 k hk q)⟩⟩)
        · refine lv_iload hx hb d_r_exchange_26 (lv_at hl 4 rfl) ?_
          refine ln_if_ne (tgt := 59) hx hb d_r_exchange_28 (by decide) (by omega) (fun c_28 => ?_) (fun c_28 => ?_)
          · exact L59 (ll) (t0) σ _ _ _ (by omega) (by omega) (by omega) (by omega) hc0 hd0 hmo0 hh0 hg0 (by omega) hw (lv_sub hl [0, 1, 2, 3, 4, 5, 6] rfl)
          · refine lv_aload_n hx hb d_r_exchange_31 rfl (lv_at hl 0 rfl) ?_
            refine lv_iload_n hx hb d_r_exchange_32 rfl (lv_at hl 1 rfl) ?_
            refine lv_iload_n hx hb d_r_exchange_33 rfl (lv_at hl 2 rfl) ?_
            refine r_calli (rest := []) S hw k_r_r_comesThrough (c_r_comesThrough l (nI a) (nI b)) (trivial) rfl rfl ⟨by decide, by decide⟩ rfl hl.1 rfl (Nat.le_of_ble_eq_true rfl) ⟨Nat.le_refl _, Nat.le_refl _⟩ d_r_exchange_34 (fun r9 σ9 H locs hq9 hw => ?_)
            obtain ⟨l9, hl9, hc9, hz9⟩ := (hc0).ct (by omega) hq9
            have hd9 := (hd0).ct hq9
            have hm9 := Mono.of5 (T := T) (ct_g hq9 (show 5 ≠ 0 by decide))
            refine lv_if_eq (tgt := 59) hx hb d_r_exchange_37 (by decide) (fun c_37 => ?_) (fun c_37 => ?_)
            · exact L59 (l9) (t0) σ9 _ _ _ (by omega) (by omega) (by omega) (by have := hz9 c_37; omega) hc9 hd9 (hmo0.tr hm9) (fun h q => hm9 _ hb6 k hk (hh0 h q)) (fun h q => hm9 _ ha6 k hk (hg0 h q)) (by omega) hw (lv_sub hl [0, 1, 2, 3, 4, 5, 6] rfl)
            · refine lv_aload_n hx hb d_r_exchange_40 rfl (lv_at hl 0 rfl) ?_
              refine r_callv (rest := []) S hw k_r_r_startWork (c_r_startWork l) (trivial) rfl rfl ⟨by decide, by decide⟩ rfl hl.1 rfl (Nat.le_of_ble_eq_true rfl) ⟨Nat.le_refl _, Nat.le_refl _⟩ d_r_exchange_41 (fun σ10 H locs hq10 hw => ?_)
              rw [hq10] at hw
              refine lv_aload_n hx hb d_r_exchange_44 rfl (lv_at hl 0 rfl) ?_
              refine lv_iload_n hx hb d_r_exchange_45 rfl (lv_at hl 1 rfl) ?_
              refine lv_iload_n hx hb d_r_exchange_46 rfl (lv_at hl 3 rfl) ?_
              refine r_callv (rest := []) S hw k_r_r_hear (c_r_hear l a k (by omega) (by omega)) ((show Dat T (swF _) from hd9.congr rfl rfl rfl rfl rfl rfl isB_n0).2.2.1 _) rfl rfl ⟨by decide, by decide⟩ rfl hl.1 rfl (Nat.le_of_ble_eq_true rfl) ⟨Nat.le_refl _, Nat.le_refl _⟩ d_r_exchange_47 (fun σ11 H locs hq11 hw => ?_)
              rw [hq11] at hw
              refine lv_aload_n hx hb d_r_exchange_50 rfl (lv_at hl 0 rfl) ?_
              refine lv_iload_n hx hb d_r_exchange_51 rfl (lv_at hl 2 rfl) ?_
              refine lv_iload_n hx hb d_r_exchange_52 rfl (lv_at hl 3 rfl) ?_
              refine r_callv (rest := []) S hw k_r_r_store (c_r_store l b k (by omega) (by omega)) ((hrF_dat (show Dat T (swF _) from hd9.congr rfl rfl rfl rfl rfl rfl isB_n0)).2.2.2.2) rfl rfl ⟨by decide, by decide⟩ rfl hl.1 rfl (Nat.le_of_ble_eq_true rfl) ⟨Nat.le_refl _, Nat.le_refl _⟩ d_r_exchange_53 (fun σ12 H locs hq12 hw => ?_)
              rw [hq12] at hw
              refine lv_iconst (v := nI 1) hx hb d_r_exchange_56 (by decide) ?_
              refine lv_istore (lv' := [(4, .int (nI 1)), (0, .ref (ad 0)), (1, .int (nI a)), (2, .int (nI b)), (3, .int (nI k)), (5, .int (nI b0)), (6, .int (nI rd))]) hx hb d_r_exchange_57 hl (by decide) rfl (fun ls hl => ?_)
              have hx := xch hd9 ha6 hb6 hk
              exact L59 (l9) (1) (stF (hrF (swF σ9) a k) b k) _ _ _ (by omega) (by omega) (by omega) (by omega) (((show CfL M U _ (swF _) from hc9.congr rfl rfl rfl rfl rfl rfl).hr a k).st b k) hx.1 ((hmo0.tr hm9).tr hx.2.1) (fun _ q => hx.2.2 (hm9 _ ha6 k hk (hmo0 _ ha6 k hk q))) (fun h q => hx.2.1 _ ha6 k hk (hm9 _ ha6 k hk (hg0 h q))) (by omega) hw (lv_sub hl [1, 2, 3, 4, 0, 5, 6] rfl)
  exact L9 35 (0) (ll0) (0) (0) σ0 _ _ _ (by omega) (by omega) (by omega) (by omega) hll0 hcf hdat Mono.rf (fun h => absurd h (by decide)) (fun h => absurd h (by decide)) hw (lv_sub hl [3, 4, 5, 6, 2, 1, 0] rfl)

set_option maxHeartbeats 4000000 in
set_option maxRecDepth 100000 in
theorem c_r_compare (l : Launch) (a : Nat) (b : Nat) (M : Nat) (U : Nat) (T : Tr) (ha6 : a < 6) (hb6 : b < 6) (hM : okM M) : rCv wr tr_ l y_r_compare w_r_compare 5 119 [.int (nI a), .int (nI b)] (fun σ => Cf M U σ ∧ Dat T σ) (cmP M U T a b) := by
  refine rCv.mk (b := b_r_compare) (nL := 5) R_rr (by decide) rfl (Nat.le_of_ble_eq_true rfl) ?_
  intro D ad cs σ0 ⟨hcf, hdat⟩ p e s mi args below meth c A S hr hlk hw ls hl
  have hx := S.1
  have hb := S.2.1
  have hts := S.2.2.2.2
  have hown := S.2.2.2.1
  have hl : lv_has ls 5 [(0, .ref (ad 0)), (1, .int (nI a)), (2, .int (nI b))] := hl
  refine lv_aload_n hx hb d_r_compare_0 rfl (lv_at hl 0 rfl) ?_
  refine lv_iload_n hx hb d_r_compare_1 rfl (lv_at hl 1 rfl) ?_
  refine lv_iload_n hx hb d_r_compare_2 rfl (lv_at hl 2 rfl) ?_
  refine r_callv (rest := []) S hw k_r_r_growTrees (c_r_growTrees l a b M (by omega) (by omega) hM) (hcf.lay) rfl rfl ⟨by decide, by decide⟩ rfl hl.1 rfl (Nat.le_of_ble_eq_true rfl) ⟨Nat.le_refl _, Nat.le_refl _⟩ d_r_compare_3 (fun σ1 H locs hq1 hw => ?_)
  obtain ⟨hcf1, hdat1, hmo1⟩ := gt_ok hcf hdat hq1
  refine lv_iconst (v := nI 0) hx hb d_r_compare_6 (by decide) ?_
  refine lv_istore_n (lv' := [(3, .int (nI 0)), (0, .ref (ad 0)), (1, .int (nI a)), (2, .int (nI b))]) hx hb d_r_compare_7 rfl hl (by decide) rfl (fun ls hl => ?_)
  have L8 : ∀ (n : Nat) (nd : Nat) (σ : St) (H : Heap) (locs : List Loc) (ls : Array Slot), nd ≤ 31 → 32 ≤ nd + n → Cf M U σ → Dat T σ → Mono T σ0 σ → rW wr tr_ D ad cs A s σ H locs → lv_has ls 5 [(0, .ref (ad 0)), (1, .int (nI a)), (2, .int (nI b)), (3, .int (nI nd))] → W p l e { frames := 5, cells := 0, slots := 0, locals := 119 } s mi args below meth c H locs 0 0 (MQ below (va_Qv ((cmP M U T a b) σ0) (rB wr tr_ D ad cs A) A) args s 0 0 A) (F0 mi 8 ls []) := by
    intro n
    induction n with
    | zero =>
      intro nd σ H locs ls hnd hn hcf2 hdat2 hmo2 hw hl
      omega
    | succ n ih8 =>
      intro nd σ H locs ls hnd hn hcf2 hdat2 hmo2 hw hl
      refine lv_iload_n hx hb d_r_compare_8 rfl (lv_at hl 3 rfl) ?_
      refine lv_bipush (v := nI 31) hx hb d_r_compare_9 (by decide) ?_
      refine ln_icmp_ge (tgt := 100) hx hb d_r_compare_11 (by decide) (⟨by omega, by omega⟩) (fun c_11 => ?_) (fun c_11 => ?_)
      · refine lv_iconst (v := nI 0) hx hb d_r_compare_100 (by decide) ?_
        refine lv_istore_n (lv' := [(3, .int (nI 0)), (0, .ref (ad 0)), (1, .int (nI a)), (2, .int (nI b))]) hx hb d_r_compare_101 rfl hl (by decide) rfl (fun ls hl => ?_)
        have L102 : ∀ (n : Nat) (k : Nat) (σ : St) (H : Heap) (locs : List Loc) (ls : Array Slot), k ≤ 16 → 17 ≤ k + n → Cf M U σ → Dat T σ → Mono T σ0 σ → (∀ j, j < k → kpm M j a → kpm M j b → hold T σ0 a j ∨ hold T σ0 b j → hold T σ a j ∧ hold T σ b j) → rW wr tr_ D ad cs A s σ H locs → lv_has ls 5 [(0, .ref (ad 0)), (1, .int (nI a)), (2, .int (nI b)), (3, .int (nI k))] → W p l e { frames := 5, cells := 0, slots := 0, locals := 119 } s mi args below meth c H locs 0 0 (MQ below (va_Qv ((cmP M U T a b) σ0) (rB wr tr_ D ad cs A) A) args s 0 0 A) (F0 mi 102 ls []) := by
          intro n
          induction n with
          | zero =>
            intro k σ H locs ls hk hn hcf3 hdat3 hmo3 hdn hw hl
            omega
          | succ n ih102 =>
            intro k σ H locs ls hk hn hcf3 hdat3 hmo3 hdn hw hl
            refine lv_iload_n hx hb d_r_compare_102 rfl (lv_at hl 3 rfl) ?_
            refine lv_bipush (v := nI 16) hx hb d_r_compare_103 (by decide) ?_
            refine ln_icmp_ge (tgt := 176) hx hb d_r_compare_105 (by decide) (⟨by omega, by omega⟩) (fun c_105 => ?_) (fun c_105 => ?_)
            · exact r_vret S hr hlk hw d_r_compare_176 (⟨hcf3, hdat3, hmo3, fun j hj => hdn j (by omega)⟩)
            · refine lv_aload_n hx hb d_r_compare_108 rfl (lv_at hl 0 rfl) ?_
              refine lv_iload_n hx hb d_r_compare_109 rfl (lv_at hl 1 rfl) ?_
              refine lv_iload_n hx hb d_r_compare_110 rfl (lv_at hl 3 rfl) ?_
              refine r_calli (rest := []) S hw k_r_r_keeps (c_r_keeps l a k M (by omega) hM) (hcf3.lay) rfl rfl ⟨by decide, by decide⟩ rfl hl.1 rfl (Nat.le_of_ble_eq_true rfl) ⟨Nat.le_refl _, Nat.le_refl _⟩ d_r_compare_111 (fun r2 σ2 H locs hq2 hw => ?_)
              obtain ⟨er2, hf2⟩ := hq2
              have kcf2 := (hcf3).fk hf2
              have kdat2 := (hdat3).fk hf2
              have kmo2 := ((Mono.rf (T := T) (σ := σ))).tr (Mono.of5 (T := T) (fk_g hf2 (by decide)))
              refine ln_top er2 ?_
              refine lb_if_eq (tgt := 130) hx hb d_r_compare_114 (by decide) (fun c_114 => ?_) (fun c_114 => ?_)
              · refine lv_iconst (v := nI 0) hx hb d_r_compare_130 (by decide) ?_
                refine lv_istore (lv' := [(4, .int (nI 0)), (0, .ref (ad 0)), (1, .int (nI a)), (2, .int (nI b)), (3, .int (nI k))]) hx hb d_r_compare_131 hl (by decide) rfl (fun ls hl => ?_)
                refine lv_iload hx hb d_r_compare_133 (lv_at hl 0 rfl) ?_
                refine ln_if_eq (tgt := 170) hx hb d_r_compare_135 (by decide) (by omega) (fun _ => ?_) (fun h => absurd h (by decide))
                refine ln_iinc (lv' := [(3, .int (nI (k + 1))), (4, .int (nI 0)), (0, .ref (ad 0)), (1, .int (nI a)), (2, .int (nI b))]) hx hb d_r_compare_170 hl (k := 4) rfl rfl (by decide) rfl (fun ls hl => ?_)
                refine lv_goto (tgt := 102) hx hb d_r_compare_173 (by decide) ?_
                exact ih102 (k + 1) σ2 _ _ _ (by omega) (by omega) kcf2 kdat2 (hmo3.tr kmo2) (fun j hj q1 q2 q3 => by
                      by_cases e : j = k
                      · subst e
                        first
                          | exact absurd q1 c_114
                          | exact absurd q2 c_123
                          | (have w := q3.imp (fun z => (hmo3.tr kmo2) _ ha6 j (by omega) z) (fun z => (hmo3.tr kmo2) _ hb6 j (by omega) z)
                             unfold hold at *
                             rcases w with w | w
                             · exact ⟨w, by rw [← c_160]; exact w⟩
                             · exact ⟨by rw [c_160]; exact w, w⟩)
                      · exact ⟨kmo2 _ ha6 j (by omega) (hdn j (by omega) q1 q2 q3).1, kmo2 _ hb6 j (by omega) (hdn j (by omega) q1 q2 q3).2⟩) hw (lv_sub hl [2, 3, 4, 0] rfl)
              · refine lv_aload_n hx hb d_r_compare_117 rfl (lv_at hl 0 rfl) ?_
                refine lv_iload_n hx hb d_r_compare_118 rfl (lv_at hl 2 rfl) ?_
                refine lv_iload_n hx hb d_r_compare_119 rfl (lv_at hl 3 rfl) ?_
                refine r_calli (rest := []) S hw k_r_r_keeps (c_r_keeps l b k M (by omega) hM) (kcf2.lay) rfl rfl ⟨by decide, by decide⟩ rfl hl.1 rfl (Nat.le_of_ble_eq_true rfl) ⟨Nat.le_refl _, Nat.le_refl _⟩ d_r_compare_120 (fun r3 σ3 H locs hq3 hw => ?_)
                obtain ⟨er3, hf3⟩ := hq3
                have kcf3 := (kcf2).fk hf3
                have kdat3 := (kdat2).fk hf3
                have kmo3 := (kmo2).tr (Mono.of5 (T := T) (fk_g hf3 (by decide)))
                refine ln_top er3 ?_
                refine lb_if_eq (tgt := 130) hx hb d_r_compare_123 (by decide) (fun c_123 => ?_) (fun c_123 => ?_)
                · refine lv_iconst (v := nI 0) hx hb d_r_compare_130 (by decide) ?_
                  refine lv_istore (lv' := [(4, .int (nI 0)), (0, .ref (ad 0)), (1, .int (nI a)), (2, .int (nI b)), (3, .int (nI k))]) hx hb d_r_compare_131 hl (by decide) rfl (fun ls hl => ?_)
                  refine lv_iload hx hb d_r_compare_133 (lv_at hl 0 rfl) ?_
                  refine ln_if_eq (tgt := 170) hx hb d_r_compare_135 (by decide) (by omega) (fun _ => ?_) (fun h => absurd h (by decide))
                  refine ln_iinc (lv' := [(3, .int (nI (k + 1))), (4, .int (nI 0)), (0, .ref (ad 0)), (1, .int (nI a)), (2, .int (nI b))]) hx hb d_r_compare_170 hl (k := 4) rfl rfl (by decide) rfl (fun ls hl => ?_)
                  refine lv_goto (tgt := 102) hx hb d_r_compare_173 (by decide) ?_
                  exact ih102 (k + 1) σ3 _ _ _ (by omega) (by omega) kcf3 kdat3 (hmo3.tr kmo3) (fun j hj q1 q2 q3 => by
                        by_cases e : j = k
                        · subst e
                          first
                            | exact absurd q1 c_114
                            | exact absurd q2 c_123
                            | (have w := q3.imp (fun z => (hmo3.tr kmo3) _ ha6 j (by omega) z) (fun z => (hmo3.tr kmo3) _ hb6 j (by omega) z)
                               unfold hold at *
                               rcases w with w | w
                               · exact ⟨w, by rw [← c_160]; exact w⟩
                               · exact ⟨by rw [c_160]; exact w, w⟩)
                        · exact ⟨kmo3 _ ha6 j (by omega) (hdn j (by omega) q1 q2 q3).1, kmo3 _ hb6 j (by omega) (hdn j (by omega) q1 q2 q3).2⟩) hw (lv_sub hl [2, 3, 4, 0] rfl)
                · refine lv_iconst (v := nI 1) hx hb d_r_compare_126 (by decide) ?_
                  refine lv_goto (tgt := 131) hx hb d_r_compare_127 (by decide) ?_
                  refine lv_istore (lv' := [(4, .int (nI 1)), (0, .ref (ad 0)), (1, .int (nI a)), (2, .int (nI b)), (3, .int (nI k))]) hx hb d_r_compare_131 hl (by decide) rfl (fun ls hl => ?_)
                  refine lv_iload hx hb d_r_compare_133 (lv_at hl 0 rfl) ?_
                  refine ln_if_eq (tgt := 170) hx hb d_r_compare_135 (by decide) (by omega) (fun h => absurd h (by decide)) (fun _ => ?_)
                  refine lv_aload_n hx hb d_r_compare_138 rfl (lv_at hl 1 rfl) ?_
                  refine rg_5 S hw d_r_compare_139 ?_
                  refine lv_iload_n hx hb d_r_compare_142 rfl (lv_at hl 2 rfl) ?_
                  refine lv_bipush (v := nI 16) hx hb d_r_compare_143 (by decide) ?_
                  refine ln_imul hx hb d_r_compare_145 ?_
                  refine lv_iload_n hx hb d_r_compare_146 rfl (lv_at hl 4 rfl) ?_
                  refine ln_iadd hx hb d_r_compare_147 ?_
                  refine rl_5 S hw d_r_compare_148 (by omega) ?_
                  refine lv_aload_n hx hb d_r_compare_149 rfl (lv_at hl 1 rfl) ?_
                  refine rg_5 S hw d_r_compare_150 ?_
                  refine lv_iload_n hx hb d_r_compare_153 rfl (lv_at hl 3 rfl) ?_
                  refine lv_bipush (v := nI 16) hx hb d_r_compare_154 (by decide) ?_
                  refine ln_imul hx hb d_r_compare_156 ?_
                  refine lv_iload_n hx hb d_r_compare_157 rfl (lv_at hl 4 rfl) ?_
                  refine ln_iadd hx hb d_r_compare_158 ?_
                  refine rl_5 S hw d_r_compare_159 (by omega) ?_
                  refine lv_icmp_eq (tgt := 170) hx hb d_r_compare_160 (by decide) (fun c_160 => ?_) (fun c_160 => ?_)
                  · refine ln_iinc (lv' := [(3, .int (nI (k + 1))), (4, .int (nI 1)), (0, .ref (ad 0)), (1, .int (nI a)), (2, .int (nI b))]) hx hb d_r_compare_170 hl (k := 4) rfl rfl (by decide) rfl (fun ls hl => ?_)
                    refine lv_goto (tgt := 102) hx hb d_r_compare_173 (by decide) ?_
                    exact ih102 (k + 1) σ3 _ _ _ (by omega) (by omega) kcf3 kdat3 (hmo3.tr kmo3) (fun j hj q1 q2 q3 => by
                          by_cases e : j = k
                          · subst e
                            first
                              | exact absurd q1 c_114
                              | exact absurd q2 c_123
                              | (have w := q3.imp (fun z => (hmo3.tr kmo3) _ ha6 j (by omega) z) (fun z => (hmo3.tr kmo3) _ hb6 j (by omega) z)
                                 unfold hold at *
                                 rcases w with w | w
                                 · exact ⟨w, by rw [← c_160]; exact w⟩
                                 · exact ⟨by rw [c_160]; exact w, w⟩)
                          · exact ⟨kmo3 _ ha6 j (by omega) (hdn j (by omega) q1 q2 q3).1, kmo3 _ hb6 j (by omega) (hdn j (by omega) q1 q2 q3).2⟩) hw (lv_sub hl [2, 3, 4, 0] rfl)
                  · refine lv_aload_n hx hb d_r_compare_163 rfl (lv_at hl 1 rfl) ?_
                    refine lv_iload_n hx hb d_r_compare_164 rfl (lv_at hl 2 rfl) ?_
                    refine lv_iload_n hx hb d_r_compare_165 rfl (lv_at hl 3 rfl) ?_
                    refine lv_iload_n hx hb d_r_compare_166 rfl (lv_at hl 4 rfl) ?_
                    refine r_callv (rest := []) S hw k_r_r_exchange (c_r_exchange l a b k M U T (by omega) (by omega) (by omega)) (⟨kcf3, kdat3⟩) rfl rfl ⟨by decide, by decide⟩ rfl hl.1 rfl (Nat.le_of_ble_eq_true rfl) ⟨Nat.le_refl _, Nat.le_refl _⟩ d_r_compare_167 (fun σ4 H locs hq4 hw => ?_)
                    refine ln_iinc (lv' := [(3, .int (nI (k + 1))), (4, .int (nI 1)), (0, .ref (ad 0)), (1, .int (nI a)), (2, .int (nI b))]) hx hb d_r_compare_170 hl (k := 4) rfl rfl (by decide) rfl (fun ls hl => ?_)
                    refine lv_goto (tgt := 102) hx hb d_r_compare_173 (by decide) ?_
                    obtain ⟨xc1, xc2, xc3, xc4⟩ := hq4
                    have hmz := kmo3.tr xc3
                    exact ih102 (k + 1) σ4 _ _ _ (by omega) (by omega) xc1 xc2 (hmo3.tr hmz) (fun j hj q1 q2 q3 => by
                          by_cases e : j = k
                          · subst e; exact xc4 (q3.imp (fun z => (hmo3.tr kmo3) _ ha6 j (by omega) z) (fun z => (hmo3.tr kmo3) _ hb6 j (by omega) z))
                          · exact ⟨hmz _ ha6 j (by omega) (hdn j (by omega) q1 q2 q3).1, hmz _ hb6 j (by omega) (hdn j (by omega) q1 q2 q3).2⟩) hw (lv_sub hl [2, 3, 4, 0] rfl)
        exact L102 17 (0) σ _ _ _ (by omega) (by omega) hcf2 hdat2 hmo2 (fun j h => absurd h (Nat.not_lt_zero j)) hw (lv_sub hl [1, 2, 3, 0] rfl)
      · refine lv_iload_n hx hb d_r_compare_14 rfl (lv_at hl 3 rfl) ?_
        refine ln_if_eq (tgt := 31) hx hb d_r_compare_15 (by decide) (by omega) (fun c_15 => ?_) (fun c_15 => ?_)
        · refine lv_iconst (v := nI 1) hx hb d_r_compare_31 (by decide) ?_
          refine lv_goto (tgt := 36) hx hb d_r_compare_32 (by decide) ?_
          refine lv_istore (lv' := [(4, .int (nI 1)), (0, .ref (ad 0)), (1, .int (nI a)), (2, .int (nI b)), (3, .int (nI nd))]) hx hb d_r_compare_36 hl (by decide) rfl (fun ls hl => ?_)
          refine lv_aload_n hx hb d_r_compare_38 rfl (lv_at hl 1 rfl) ?_
          refine rg_18 S hw d_r_compare_39 ?_
          refine lv_iload_n hx hb d_r_compare_42 rfl (lv_at hl 4 rfl) ?_
          refine lv_iload hx hb d_r_compare_43 (lv_at hl 0 rfl) ?_
          refine ln_if_eq (tgt := 67) hx hb d_r_compare_45 (by decide) (by omega) (fun h => absurd h (by decide)) (fun _ => ?_)
          refine lv_aload_n hx hb d_r_compare_48 rfl (lv_at hl 1 rfl) ?_
          refine rg_16 S hw d_r_compare_49 ?_
          refine lv_iload_n hx hb d_r_compare_52 rfl (lv_at hl 4 rfl) ?_
          refine rl_16 S hw d_r_compare_53 (by omega) ?_
          refine lv_aload_n hx hb d_r_compare_54 rfl (lv_at hl 1 rfl) ?_
          refine rg_17 S hw d_r_compare_55 ?_
          refine lv_iload_n hx hb d_r_compare_58 rfl (lv_at hl 4 rfl) ?_
          refine rl_17 S hw d_r_compare_59 (by omega) ?_
          refine lv_icmp_eq (tgt := 67) hx hb d_r_compare_60 (by decide) (fun c_60 => ?_) (fun c_60 => ?_)
          · refine lv_iconst (v := nI 0) hx hb d_r_compare_67 (by decide) ?_
            refine rs_18 S hw d_r_compare_68 (by omega) (isB_n0) (fun H locs hw => ?_)
            refine lv_aload_n hx hb d_r_compare_69 rfl (lv_at hl 1 rfl) ?_
            refine rg_18 S hw d_r_compare_70 ?_
            refine lv_iload_n hx hb d_r_compare_73 rfl (lv_at hl 4 rfl) ?_
            refine rl_18 S hw d_r_compare_74 (by omega) ?_
            refine ln_top (up2_s _ _ _ _) ?_
            refine ln_if_eq (tgt := 94) hx hb d_r_compare_75 (by decide) (by omega) (fun _ => ?_) (fun h => absurd h (by decide))
            refine ln_iinc (lv' := [(3, .int (nI (nd + 1))), (4, .int (nI 1)), (0, .ref (ad 0)), (1, .int (nI a)), (2, .int (nI b))]) hx hb d_r_compare_94 hl (k := 4) rfl rfl (by decide) rfl (fun ls hl => ?_)
            refine lv_goto (tgt := 8) hx hb d_r_compare_97 (by decide) ?_
            exact ih8 (nd + 1) (up2 σ 18 nd (nI 0)) _ _ _ (by omega) (by omega) (hcf2.congr rfl rfl rfl rfl rfl rfl) (hdat2.congr rfl rfl rfl rfl rfl rfl hdat2.2.2.2.2) (hmo2.tr (Mono.of5 rfl)) hw (lv_sub hl [2, 3, 4, 0] rfl)
          · refine lv_iconst (v := nI 1) hx hb d_r_compare_63 (by decide) ?_
            refine lv_goto (tgt := 68) hx hb d_r_compare_64 (by decide) ?_
            refine rs_18 S hw d_r_compare_68 (by omega) (isB_n1) (fun H locs hw => ?_)
            refine lv_aload_n hx hb d_r_compare_69 rfl (lv_at hl 1 rfl) ?_
            refine rg_18 S hw d_r_compare_70 ?_
            refine lv_iload_n hx hb d_r_compare_73 rfl (lv_at hl 4 rfl) ?_
            refine rl_18 S hw d_r_compare_74 (by omega) ?_
            refine ln_top (up2_s _ _ _ _) ?_
            refine ln_if_eq (tgt := 94) hx hb d_r_compare_75 (by decide) (by omega) (fun h => absurd h (by decide)) (fun _ => ?_)
            refine lv_iload_n hx hb d_r_compare_78 rfl (lv_at hl 4 rfl) ?_
            refine lv_bipush (v := nI 15) hx hb d_r_compare_79 (by decide) ?_
            refine ln_icmp_lt (tgt := 94) hx hb d_r_compare_81 (by decide) (⟨by omega, by omega⟩) (fun c_81 => ?_) (fun c_81 => ?_)
            · refine ln_iinc (lv' := [(3, .int (nI (nd + 1))), (4, .int (nI 1)), (0, .ref (ad 0)), (1, .int (nI a)), (2, .int (nI b))]) hx hb d_r_compare_94 hl (k := 4) rfl rfl (by decide) rfl (fun ls hl => ?_)
              refine lv_goto (tgt := 8) hx hb d_r_compare_97 (by decide) ?_
              exact ih8 (nd + 1) (up2 σ 18 nd (nI 1)) _ _ _ (by omega) (by omega) (hcf2.congr rfl rfl rfl rfl rfl rfl) (hdat2.congr rfl rfl rfl rfl rfl rfl hdat2.2.2.2.2) (hmo2.tr (Mono.of5 rfl)) hw (lv_sub hl [2, 3, 4, 0] rfl)
            · refine lv_aload_n hx hb d_r_compare_84 rfl (lv_at hl 1 rfl) ?_
              refine lv_iload_n hx hb d_r_compare_85 rfl (lv_at hl 2 rfl) ?_
              refine lv_iload_n hx hb d_r_compare_86 rfl (lv_at hl 3 rfl) ?_
              refine lv_iload_n hx hb d_r_compare_87 rfl (lv_at hl 4 rfl) ?_
              refine lv_bipush (v := nI 15) hx hb d_r_compare_88 (by decide) ?_
              refine ln_isub hx hb d_r_compare_90 (by omega) ?_
              refine r_callv (rest := []) S hw k_r_r_exchange (c_r_exchange l a b (nd - 15) M U T (by omega) (by omega) (by omega)) (⟨(hcf2.congr rfl rfl rfl rfl rfl rfl), (hdat2.congr rfl rfl rfl rfl rfl rfl hdat2.2.2.2.2)⟩) rfl rfl ⟨by decide, by decide⟩ rfl hl.1 rfl (Nat.le_of_ble_eq_true rfl) ⟨Nat.le_refl _, Nat.le_refl _⟩ d_r_compare_91 (fun σ5 H locs hq5 hw => ?_)
              refine ln_iinc (lv' := [(3, .int (nI (nd + 1))), (4, .int (nI 1)), (0, .ref (ad 0)), (1, .int (nI a)), (2, .int (nI b))]) hx hb d_r_compare_94 hl (k := 4) rfl rfl (by decide) rfl (fun ls hl => ?_)
              refine lv_goto (tgt := 8) hx hb d_r_compare_97 (by decide) ?_
              exact ih8 (nd + 1) σ5 _ _ _ (by omega) (by omega) hq5.1 hq5.2.1 ((hmo2.tr (Mono.of5 rfl)).tr hq5.2.2.1) hw (lv_sub hl [2, 3, 4, 0] rfl)
        · refine lv_aload_n hx hb d_r_compare_18 rfl (lv_at hl 0 rfl) ?_
          refine rg_18 S hw d_r_compare_19 ?_
          refine lv_iload_n hx hb d_r_compare_22 rfl (lv_at hl 3 rfl) ?_
          refine lv_iconst (v := nI 1) hx hb d_r_compare_23 (by decide) ?_
          refine ln_isub hx hb d_r_compare_24 (by omega) ?_
          refine lv_iconst (v := nI 2) hx hb d_r_compare_25 (by decide) ?_
          refine ln_idiv hx hb d_r_compare_26 ⟨by omega, by omega, by omega⟩ ?_
          refine rl_18 S hw d_r_compare_27 (by omega) ?_
          refine lv_if_eq (tgt := 35) hx hb d_r_compare_28 (by decide) (fun c_28 => ?_) (fun c_28 => ?_)
          · refine lv_iconst (v := nI 0) hx hb d_r_compare_35 (by decide) ?_
            refine lv_istore (lv' := [(4, .int (nI 0)), (0, .ref (ad 0)), (1, .int (nI a)), (2, .int (nI b)), (3, .int (nI nd))]) hx hb d_r_compare_36 hl (by decide) rfl (fun ls hl => ?_)
            refine lv_aload_n hx hb d_r_compare_38 rfl (lv_at hl 1 rfl) ?_
            refine rg_18 S hw d_r_compare_39 ?_
            refine lv_iload_n hx hb d_r_compare_42 rfl (lv_at hl 4 rfl) ?_
            refine lv_iload hx hb d_r_compare_43 (lv_at hl 0 rfl) ?_
            refine ln_if_eq (tgt := 67) hx hb d_r_compare_45 (by decide) (by omega) (fun _ => ?_) (fun h => absurd h (by decide))
            refine lv_iconst (v := nI 0) hx hb d_r_compare_67 (by decide) ?_
            refine rs_18 S hw d_r_compare_68 (by omega) (isB_n0) (fun H locs hw => ?_)
            refine lv_aload_n hx hb d_r_compare_69 rfl (lv_at hl 1 rfl) ?_
            refine rg_18 S hw d_r_compare_70 ?_
            refine lv_iload_n hx hb d_r_compare_73 rfl (lv_at hl 4 rfl) ?_
            refine rl_18 S hw d_r_compare_74 (by omega) ?_
            refine ln_top (up2_s _ _ _ _) ?_
            refine ln_if_eq (tgt := 94) hx hb d_r_compare_75 (by decide) (by omega) (fun _ => ?_) (fun h => absurd h (by decide))
            refine ln_iinc (lv' := [(3, .int (nI (nd + 1))), (4, .int (nI 0)), (0, .ref (ad 0)), (1, .int (nI a)), (2, .int (nI b))]) hx hb d_r_compare_94 hl (k := 4) rfl rfl (by decide) rfl (fun ls hl => ?_)
            refine lv_goto (tgt := 8) hx hb d_r_compare_97 (by decide) ?_
            exact ih8 (nd + 1) (up2 σ 18 nd (nI 0)) _ _ _ (by omega) (by omega) (hcf2.congr rfl rfl rfl rfl rfl rfl) (hdat2.congr rfl rfl rfl rfl rfl rfl hdat2.2.2.2.2) (hmo2.tr (Mono.of5 rfl)) hw (lv_sub hl [2, 3, 4, 0] rfl)
          · refine lv_iconst (v := nI 1) hx hb d_r_compare_31 (by decide) ?_
            refine lv_goto (tgt := 36) hx hb d_r_compare_32 (by decide) ?_
            refine lv_istore (lv' := [(4, .int (nI 1)), (0, .ref (ad 0)), (1, .int (nI a)), (2, .int (nI b)), (3, .int (nI nd))]) hx hb d_r_compare_36 hl (by decide) rfl (fun ls hl => ?_)
            refine lv_aload_n hx hb d_r_compare_38 rfl (lv_at hl 1 rfl) ?_
            refine rg_18 S hw d_r_compare_39 ?_
            refine lv_iload_n hx hb d_r_compare_42 rfl (lv_at hl 4 rfl) ?_
            refine lv_iload hx hb d_r_compare_43 (lv_at hl 0 rfl) ?_
            refine ln_if_eq (tgt := 67) hx hb d_r_compare_45 (by decide) (by omega) (fun h => absurd h (by decide)) (fun _ => ?_)
            refine lv_aload_n hx hb d_r_compare_48 rfl (lv_at hl 1 rfl) ?_
            refine rg_16 S hw d_r_compare_49 ?_
            refine lv_iload_n hx hb d_r_compare_52 rfl (lv_at hl 4 rfl) ?_
            refine rl_16 S hw d_r_compare_53 (by omega) ?_
            refine lv_aload_n hx hb d_r_compare_54 rfl (lv_at hl 1 rfl) ?_
            refine rg_17 S hw d_r_compare_55 ?_
            refine lv_iload_n hx hb d_r_compare_58 rfl (lv_at hl 4 rfl) ?_
            refine rl_17 S hw d_r_compare_59 (by omega) ?_
            refine lv_icmp_eq (tgt := 67) hx hb d_r_compare_60 (by decide) (fun c_60 => ?_) (fun c_60 => ?_)
            · refine lv_iconst (v := nI 0) hx hb d_r_compare_67 (by decide) ?_
              refine rs_18 S hw d_r_compare_68 (by omega) (isB_n0) (fun H locs hw => ?_)
              refine lv_aload_n hx hb d_r_compare_69 rfl (lv_at hl 1 rfl) ?_
              refine rg_18 S hw d_r_compare_70 ?_
              refine lv_iload_n hx hb d_r_compare_73 rfl (lv_at hl 4 rfl) ?_
              refine rl_18 S hw d_r_compare_74 (by omega) ?_
              refine ln_top (up2_s _ _ _ _) ?_
              refine ln_if_eq (tgt := 94) hx hb d_r_compare_75 (by decide) (by omega) (fun _ => ?_) (fun h => absurd h (by decide))
              refine ln_iinc (lv' := [(3, .int (nI (nd + 1))), (4, .int (nI 1)), (0, .ref (ad 0)), (1, .int (nI a)), (2, .int (nI b))]) hx hb d_r_compare_94 hl (k := 4) rfl rfl (by decide) rfl (fun ls hl => ?_)
              refine lv_goto (tgt := 8) hx hb d_r_compare_97 (by decide) ?_
              exact ih8 (nd + 1) (up2 σ 18 nd (nI 0)) _ _ _ (by omega) (by omega) (hcf2.congr rfl rfl rfl rfl rfl rfl) (hdat2.congr rfl rfl rfl rfl rfl rfl hdat2.2.2.2.2) (hmo2.tr (Mono.of5 rfl)) hw (lv_sub hl [2, 3, 4, 0] rfl)
            · refine lv_iconst (v := nI 1) hx hb d_r_compare_63 (by decide) ?_
              refine lv_goto (tgt := 68) hx hb d_r_compare_64 (by decide) ?_
              refine rs_18 S hw d_r_compare_68 (by omega) (isB_n1) (fun H locs hw => ?_)
              refine lv_aload_n hx hb d_r_compare_69 rfl (lv_at hl 1 rfl) ?_
              refine rg_18 S hw d_r_compare_70 ?_
              refine lv_iload_n hx hb d_r_compare_73 rfl (lv_at hl 4 rfl) ?_
              refine rl_18 S hw d_r_compare_74 (by omega) ?_
              refine ln_top (up2_s _ _ _ _) ?_
              refine ln_if_eq (tgt := 94) hx hb d_r_compare_75 (by decide) (by omega) (fun h => absurd h (by decide)) (fun _ => ?_)
              refine lv_iload_n hx hb d_r_compare_78 rfl (lv_at hl 4 rfl) ?_
              refine lv_bipush (v := nI 15) hx hb d_r_compare_79 (by decide) ?_
              refine ln_icmp_lt (tgt := 94) hx hb d_r_compare_81 (by decide) (⟨by omega, by omega⟩) (fun c_81 => ?_) (fun c_81 => ?_)
              · refine ln_iinc (lv' := [(3, .int (nI (nd + 1))), (4, .int (nI 1)), (0, .ref (ad 0)), (1, .int (nI a)), (2, .int (nI b))]) hx hb d_r_compare_94 hl (k := 4) rfl rfl (by decide) rfl (fun ls hl => ?_)
                refine lv_goto (tgt := 8) hx hb d_r_compare_97 (by decide) ?_
                exact ih8 (nd + 1) (up2 σ 18 nd (nI 1)) _ _ _ (by omega) (by omega) (hcf2.congr rfl rfl rfl rfl rfl rfl) (hdat2.congr rfl rfl rfl rfl rfl rfl hdat2.2.2.2.2) (hmo2.tr (Mono.of5 rfl)) hw (lv_sub hl [2, 3, 4, 0] rfl)
              · refine lv_aload_n hx hb d_r_compare_84 rfl (lv_at hl 1 rfl) ?_
                refine lv_iload_n hx hb d_r_compare_85 rfl (lv_at hl 2 rfl) ?_
                refine lv_iload_n hx hb d_r_compare_86 rfl (lv_at hl 3 rfl) ?_
                refine lv_iload_n hx hb d_r_compare_87 rfl (lv_at hl 4 rfl) ?_
                refine lv_bipush (v := nI 15) hx hb d_r_compare_88 (by decide) ?_
                refine ln_isub hx hb d_r_compare_90 (by omega) ?_
                refine r_callv (rest := []) S hw k_r_r_exchange (c_r_exchange l a b (nd - 15) M U T (by omega) (by omega) (by omega)) (⟨(hcf2.congr rfl rfl rfl rfl rfl rfl), (hdat2.congr rfl rfl rfl rfl rfl rfl hdat2.2.2.2.2)⟩) rfl rfl ⟨by decide, by decide⟩ rfl hl.1 rfl (Nat.le_of_ble_eq_true rfl) ⟨Nat.le_refl _, Nat.le_refl _⟩ d_r_compare_91 (fun σ6 H locs hq6 hw => ?_)
                refine ln_iinc (lv' := [(3, .int (nI (nd + 1))), (4, .int (nI 1)), (0, .ref (ad 0)), (1, .int (nI a)), (2, .int (nI b))]) hx hb d_r_compare_94 hl (k := 4) rfl rfl (by decide) rfl (fun ls hl => ?_)
                refine lv_goto (tgt := 8) hx hb d_r_compare_97 (by decide) ?_
                exact ih8 (nd + 1) σ6 _ _ _ (by omega) (by omega) hq6.1 hq6.2.1 ((hmo2.tr (Mono.of5 rfl)).tr hq6.2.2.1) hw (lv_sub hl [2, 3, 4, 0] rfl)
  exact L8 32 (0) σ1 _ _ _ (by omega) (by omega) hcf1 hdat1 hmo1 hw (lv_sub hl [1, 2, 3, 0] rfl)

set_option maxHeartbeats 4000000 in
set_option maxRecDepth 100000 in
theorem c_r_compareAll (l : Launch) (M : Nat) (U : Nat) (T : Tr) (hM : okM M) (hU : okW M U) : rCv wr tr_ l y_r_compareAll w_r_compareAll 6 143 [] (fun σ => Cf M U σ ∧ Dat T σ) (fun σ σ' => Cf M U σ' ∧ Dat T σ' ∧ Mono T σ σ') := by
  refine rCv.mk (b := b_r_compareAll) (nL := 3) R_rr (by decide) rfl (Nat.le_of_ble_eq_true rfl) ?_
  intro D ad cs σ0 ⟨hcf, hdat⟩ p e s mi args below meth c A S hr hlk hw ls hl
  have hx := S.1
  have hb := S.2.1
  have hts := S.2.2.2.2
  have hown := S.2.2.2.1
  have hl : lv_has ls 3 [(0, .ref (ad 0))] := hl
  refine lv_iconst (v := nI 0) hx hb d_r_compareAll_0 (by decide) ?_
  refine lv_istore_n (lv' := [(1, .int (nI 0)), (0, .ref (ad 0))]) hx hb d_r_compareAll_1 rfl hl (by decide) rfl (fun ls hl => ?_)
  have L2 : ∀ (n : Nat) (i : Nat) (σ : St) (H : Heap) (locs : List Loc) (ls : Array Slot), i ≤ 6 → 7 ≤ i + n → Cf M U σ → Dat T σ → Mono T σ0 σ → rW wr tr_ D ad cs A s σ H locs → lv_has ls 3 [(0, .ref (ad 0)), (1, .int (nI i))] → W p l e { frames := 6, cells := 0, slots := 0, locals := 143 } s mi args below meth c H locs 0 0 (MQ below (va_Qv ((fun σ σ' => Cf M U σ' ∧ Dat T σ' ∧ Mono T σ σ') σ0) (rB wr tr_ D ad cs A) A) args s 0 0 A) (F0 mi 2 ls []) := by
    intro n
    induction n with
    | zero =>
      intro i σ H locs ls hi hn hcf2 hdat2 hmo2 hw hl
      omega
    | succ n ih2 =>
      intro i σ H locs ls hi hn hcf2 hdat2 hmo2 hw hl
      refine lv_iload_n hx hb d_r_compareAll_2 rfl (lv_at hl 1 rfl) ?_
      refine lv_bipush (v := nI 6) hx hb d_r_compareAll_3 (by decide) ?_
      refine ln_icmp_ge (tgt := 52) hx hb d_r_compareAll_5 (by decide) (⟨by omega, by omega⟩) (fun c_5 => ?_) (fun c_5 => ?_)
      · exact r_vret S hr hlk hw d_r_compareAll_52 (⟨hcf2, hdat2, hmo2⟩)
      · refine lv_iload_n hx hb d_r_compareAll_8 rfl (lv_at hl 1 rfl) ?_
        refine lv_iconst (v := nI 1) hx hb d_r_compareAll_9 (by decide) ?_
        refine ln_iadd hx hb d_r_compareAll_10 ?_
        refine lv_istore_n (lv' := [(2, .int (nI (i + 1))), (0, .ref (ad 0)), (1, .int (nI i))]) hx hb d_r_compareAll_11 rfl hl (by decide) rfl (fun ls hl => ?_)
        have L12 : ∀ (n : Nat) (j : Nat) (σ : St) (H : Heap) (locs : List Loc) (ls : Array Slot), j ≤ 6 → 7 ≤ j + n → Cf M U σ → Dat T σ → Mono T σ0 σ → rW wr tr_ D ad cs A s σ H locs → lv_has ls 3 [(0, .ref (ad 0)), (1, .int (nI i)), (2, .int (nI j))] → W p l e { frames := 6, cells := 0, slots := 0, locals := 143 } s mi args below meth c H locs 0 0 (MQ below (va_Qv ((fun σ σ' => Cf M U σ' ∧ Dat T σ' ∧ Mono T σ σ') σ0) (rB wr tr_ D ad cs A) A) args s 0 0 A) (F0 mi 12 ls []) := by
          intro n
          induction n with
          | zero =>
            intro j σ H locs ls hj hn hcf2 hdat2 hmo2 hw hl
            omega
          | succ n ih12 =>
            intro j σ H locs ls hj hn hcf2 hdat2 hmo2 hw hl
            refine lv_iload_n hx hb d_r_compareAll_12 rfl (lv_at hl 2 rfl) ?_
            refine lv_bipush (v := nI 6) hx hb d_r_compareAll_13 (by decide) ?_
            refine ln_icmp_ge (tgt := 46) hx hb d_r_compareAll_15 (by decide) (⟨by omega, by omega⟩) (fun c_15 => ?_) (fun c_15 => ?_)
            · refine ln_iinc (lv' := [(1, .int (nI (i + 1))), (0, .ref (ad 0)), (2, .int (nI j))]) hx hb d_r_compareAll_46 hl (k := 1) rfl rfl (by decide) rfl (fun ls hl => ?_)
              refine lv_goto (tgt := 2) hx hb d_r_compareAll_49 (by decide) ?_
              exact ih2 (i + 1) σ _ _ _ (by omega) (by omega) hcf2 hdat2 hmo2 hw (lv_sub hl [1, 0] rfl)
            · refine lv_aload_n hx hb d_r_compareAll_18 rfl (lv_at hl 0 rfl) ?_
              refine lv_iload_n hx hb d_r_compareAll_19 rfl (lv_at hl 1 rfl) ?_
              refine r_calli (rest := []) S hw k_r_r_isWorking (c_r_isWorking l (nI i) U hU.1) (hcf2.u) rfl rfl ⟨by decide, by decide⟩ rfl hl.1 rfl (Nat.le_of_ble_eq_true rfl) ⟨Nat.le_refl _, Nat.le_refl _⟩ d_r_compareAll_20 (fun r1 σ1 H locs hq1 hw => ?_)
              obtain ⟨es1, er1⟩ := hq1
              rw [es1] at hw
              refine ln_top (er1.trans (bI_congr (mem_nI (by omega)))) ?_
              refine lb_if_eq (tgt := 40) hx hb d_r_compareAll_23 (by decide) (fun c_23 => ?_) (fun c_23 => ?_)
              · refine ln_iinc (lv' := [(2, .int (nI (j + 1))), (0, .ref (ad 0)), (1, .int (nI i))]) hx hb d_r_compareAll_40 hl (k := 2) rfl rfl (by decide) rfl (fun ls hl => ?_)
                refine lv_goto (tgt := 12) hx hb d_r_compareAll_43 (by decide) ?_
                exact ih12 (j + 1) σ _ _ _ (by omega) (by omega) hcf2 hdat2 hmo2 hw (lv_sub hl [1, 2, 0] rfl)
              · refine lv_aload_n hx hb d_r_compareAll_26 rfl (lv_at hl 0 rfl) ?_
                refine lv_iload_n hx hb d_r_compareAll_27 rfl (lv_at hl 2 rfl) ?_
                refine r_calli (rest := []) S hw k_r_r_isWorking (c_r_isWorking l (nI j) U hU.1) (hcf2.u) rfl rfl ⟨by decide, by decide⟩ rfl hl.1 rfl (Nat.le_of_ble_eq_true rfl) ⟨Nat.le_refl _, Nat.le_refl _⟩ d_r_compareAll_28 (fun r2 σ2 H locs hq2 hw => ?_)
                obtain ⟨es2, er2⟩ := hq2
                rw [es2] at hw
                refine ln_top (er2.trans (bI_congr (mem_nI (by omega)))) ?_
                refine lb_if_eq (tgt := 40) hx hb d_r_compareAll_31 (by decide) (fun c_31 => ?_) (fun c_31 => ?_)
                · refine ln_iinc (lv' := [(2, .int (nI (j + 1))), (0, .ref (ad 0)), (1, .int (nI i))]) hx hb d_r_compareAll_40 hl (k := 2) rfl rfl (by decide) rfl (fun ls hl => ?_)
                  refine lv_goto (tgt := 12) hx hb d_r_compareAll_43 (by decide) ?_
                  exact ih12 (j + 1) σ _ _ _ (by omega) (by omega) hcf2 hdat2 hmo2 hw (lv_sub hl [1, 2, 0] rfl)
                · refine lv_aload_n hx hb d_r_compareAll_34 rfl (lv_at hl 0 rfl) ?_
                  refine lv_iload_n hx hb d_r_compareAll_35 rfl (lv_at hl 1 rfl) ?_
                  refine lv_iload_n hx hb d_r_compareAll_36 rfl (lv_at hl 2 rfl) ?_
                  refine r_callv (rest := []) S hw k_r_r_compare (c_r_compare l i j M U T (by omega) (by omega) hM) (⟨hcf2, hdat2⟩) rfl rfl ⟨by decide, by decide⟩ rfl hl.1 rfl (Nat.le_of_ble_eq_true rfl) ⟨Nat.le_refl _, Nat.le_refl _⟩ d_r_compareAll_37 (fun σ3 H locs hq3 hw => ?_)
                  refine ln_iinc (lv' := [(2, .int (nI (j + 1))), (0, .ref (ad 0)), (1, .int (nI i))]) hx hb d_r_compareAll_40 hl (k := 2) rfl rfl (by decide) rfl (fun ls hl => ?_)
                  refine lv_goto (tgt := 12) hx hb d_r_compareAll_43 (by decide) ?_
                  exact ih12 (j + 1) σ3 _ _ _ (by omega) (by omega) hq3.1 hq3.2.1 (hmo2.tr hq3.2.2.1) hw (lv_sub hl [1, 2, 0] rfl)
        exact L12 7 (i + 1) σ _ _ _ (by omega) (by omega) hcf2 hdat2 hmo2 hw (lv_sub hl [1, 2, 0] rfl)
  exact L2 7 (0) σ0 _ _ _ (by omega) (by omega) hcf hdat Mono.rf hw (lv_sub hl [1, 0] rfl)
end
section
theorem hz_dat {T : Tr} {σ : St} (h : Dat T σ) (i : Nat) : Dat T (up2 σ 8 i (nI 0)) := by
  obtain ⟨h1, h2, h3, h4, h5⟩ := h
  refine ⟨h1, fun a ha m hm k hk => ?_, h3, h4, h5⟩
  have q := h2 a ha m hm k hk
  by_cases e : (a * 6 + m) * 16 + k = i
  · unfold hinG
    rw [e, up2_s]
    exact good_0 (by have := q.1; have := q.2.1; omega)
  · unfold hinG
    rw [up2_n e, up2_g (by decide), up2_g (by decide)]
    exact q
/-- the newest at work becomes a hint -/
def rgF (σ : St) (c : Nat) : St := up2 (up2 (up2 σ 0 13 (σ 8 c)) 0 14 (σ 9 c)) 0 15 (σ 10 c)
theorem ho_ok {M U : Nat} {T : Tr} {σ : St} {a m k : Nat} (hc : Cf M U σ) (hd : Dat T σ) (ha : a < 6) (hm : m < 6) (hk : k < 16) :
    Cf M U (up2 (stF (rgF σ ((a * 6 + m) * 16 + k)) m k) 8 ((a * 6 + m) * 16 + k) (nI 0)) ∧ Dat T (up2 (stF (rgF σ ((a * 6 + m) * 16 + k)) m k) 8 ((a * 6 + m) * 16 + k) (nI 0)) ∧ Mono T σ (up2 (stF (rgF σ ((a * 6 + m) * 16 + k)) m k) 8 ((a * 6 + m) * 16 + k) (nI 0)) := by
  have hr : regG T (rgF σ ((a * 6 + m) * 16 + k)) k := hd.2.1 a ha m hm k hk
  have d1 : Dat T (rgF σ ((a * 6 + m) * 16 + k)) := hd.congr rfl rfl rfl rfl rfl rfl (hd.2.2.2.1 _)
  have c1 : Cf M U (rgF σ ((a * 6 + m) * 16 + k)) := hc.congr rfl rfl rfl rfl rfl rfl
  have m1 : Mono T σ (rgF σ ((a * 6 + m) * 16 + k)) := Mono.of5 rfl
  generalize rgF σ ((a * 6 + m) * 16 + k) = σ1 at hr d1 c1 m1 ⊢
  have c2 : Cf M U (stF σ1 m k) := c1.st m k
  have d2 : Dat T (stF σ1 m k) := stF_dat d1 hr hm hk
  have m2 : Mono T σ1 (stF σ1 m k) := stF_mono hr hk
  generalize stF σ1 m k = σ2 at c2 d2 m2 ⊢
  exact ⟨c2.congr rfl rfl rfl rfl rfl rfl, hz_dat d2 _, (m1.tr m2).tr (Mono.of5 rfl)⟩
theorem okW_self {M : Nat} (h : okM M) : okW M M := ⟨h.1, fun _ h => h, fun _ _ _ h _ => Or.inl h⟩
theorem lead {M U : Nat} (hM : okM M) (hU : okW M U) : ∃ j, j < 5 ∧ U.testBit j = true := by
  obtain ⟨a, ha, b, hb, c, hc, h1, h2, ba, bb, -⟩ := three M hM.1 hM.2
  rcases hU.2.2 a b (by omega) ba bb with h | h
  · exact ⟨a, by omega, h⟩
  · exact ⟨b, by omega, h⟩
theorem tb6 {x i : Nat} (h : x < 64) (hi : 6 ≤ i) : x.testBit i = false := Nat.testBit_lt_two_pow (Nat.lt_of_lt_of_le h (Nat.pow_le_pow_right (by decide) hi : 2 ^ 6 ≤ 2 ^ i))
theorem upM {M U mj : Nat} (hM : okM M) (hU : okW M U) (hmj : mj < 6) (h1 : M.testBit mj = true) (h2 : ¬ U.testBit mj = true) : U ||| 2 ^ mj = M := by
  apply Nat.eq_of_testBit_eq
  intro i
  by_cases hi : i < 6
  · rw [(or6 U hU.1 mj hmj).2.2 i hi]
    by_cases e : i = mj
    · subst e; simp [h1]
    · simp [e]
      cases hb : M.testBit i with
      | true =>
        rcases hU.2.2 i mj e hb h1 with h | h
        · exact h
        · exact absurd h h2
      | false =>
        cases hu : U.testBit i with
        | false => rfl
        | true => rw [hU.2.1 i hu] at hb; exact hb
  · rw [tb6 (or6 U hU.1 mj hmj).2.1 (by omega), tb6 hM.1 (by omega)]
theorem and6 : ∀ s, s < 64 → ∀ j, j < 6 → s.testBit j = true → nI s &&& ((nI 1 <<< (nI j &&& 31)) ^^^ (-1)) = nI (s ^^^ 2 ^ j) ∧ s ^^^ 2 ^ j < 64 ∧ cb (s ^^^ 2 ^ j) 6 + 1 = cb s 6 := by decide +kernel
theorem and6b : ∀ s, s < 64 → ∀ j, j < 6 → s.testBit j = true → ∀ i, i < 6 → (s ^^^ 2 ^ j).testBit i = (s.testBit i && !decide (i = j)) := by decide +kernel
theorem or6c : ∀ s, s < 64 → ∀ j, j < 6 → cb s 6 ≤ cb (s ||| 2 ^ j) 6 := by decide +kernel
theorem okW_dn {M mj : Nat} (hM : okM M) (hmj : mj < 6) (h : M.testBit mj = true) : okW M (M ^^^ 2 ^ mj) := by
  have key : ∀ i, (M ^^^ 2 ^ mj).testBit i = (M.testBit i && !decide (i = mj)) := by
    intro i
    by_cases hi : i < 6
    · exact and6b M hM.1 mj hmj h i hi
    · rw [tb6 (and6 M hM.1 mj hmj h).2.1 (by omega), tb6 hM.1 (by omega)]; rfl
  refine ⟨(and6 M hM.1 mj hmj h).2.1, fun j hj => ?_, fun i j hne hi hj => ?_⟩
  · rw [key] at hj; simp at hj; exact hj.1
  · rw [key, key, hi, hj]
    by_cases e : i = mj
    · right; simp; omega
    · left; simp [e]
theorem kpm_kp (M k : Nat) {i : Nat} (hi : i < 3) : kpm M k (kp M k i) := by
  unfold kpm
  rcases (show i = 0 ∨ i = 1 ∨ i = 2 by omega) with rfl | rfl | rfl
  · exact Or.inl rfl
  · exact Or.inr (Or.inl rfl)
  · exact Or.inr (Or.inr rfl)
theorem up_quor {M mj k : Nat} {T : Tr} {σ0 σ : St} (hM : okM M) (hk : k < 16) (hq : quor M T σ0 k) (hkeep : ∀ x, x < 6 → x ≠ mj → ∀ j, j < 16 → hold T σ0 x j → hold T σ x j) (hdn : ∀ o, o < 6 → o ≠ mj → M.testBit o = true → ∀ j, j < 16 → kpm M j mj → kpm M j o → hold T σ0 o j → hold T σ mj j ∧ hold T σ o j) : quor M T σ k := by
  obtain ⟨i, hi, j, hj, hne, h1, h2⟩ := hq
  have li := kp_lt hM k hi
  have lj := kp_lt hM k hj
  have hd := kp_ne hM k hi hj hne
  by_cases e1 : kp M k i = mj
  · have e2 : kp M k j ≠ mj := fun e => hd (e1.trans e.symm)
    have := hdn _ lj.1 e2 lj.2 k hk (by rw [← e1]; exact kpm_kp M k hi) (kpm_kp M k hj) h2
    exact ⟨i, hi, j, hj, hne, by rw [e1]; exact this.1, this.2⟩
  · by_cases e2 : kp M k j = mj
    · have := hdn _ li.1 e1 li.2 k hk (by rw [← e2]; exact kpm_kp M k hj) (kpm_kp M k hi) h1
      exact ⟨i, hi, j, hj, hne, this.2, by rw [e2]; exact this.1⟩
    · exact ⟨i, hi, j, hj, hne, hkeep _ li.1 e1 k hk h1, hkeep _ lj.1 e2 k hk h2⟩
theorem Cf.er {M U : Nat} {σ : St} (hc : Cf M U σ) (m k : Nat) : Cf M U (erF σ m k) := hc.congr rfl rfl rfl rfl rfl rfl
theorem er_hold {T : Tr} {σ : St} {m k x j : Nat} (h : hold T σ x j) (hk : k < 16) (hj : j < 16) (hne : ¬ (x = m ∧ j = k)) : hold T (erF σ m k) x j := by
  unfold hold at *; rw [erF_n (by omega)]; exact h
def upP (M U : Nat) (T : Tr) (m : Int32) (σ : St) (r : Int32) (σ' : St) : Prop :=
  (¬ (mem M m ∧ ¬ mem U m) ∧ r = nI 0 ∧ σ' = σ) ∨ ∃ mj, mj < 6 ∧ m = nI mj ∧ M.testBit mj = true ∧ ¬ U.testBit mj = true ∧ r = nI 1 ∧ Inv M M T σ'
def dnP (M U : Nat) (T : Tr) (m : Int32) (σ : St) (r : Int32) (σ' : St) : Prop :=
  (¬ (mem U m ∧ U = M) ∧ r = nI 0 ∧ σ' = σ) ∨ ∃ mj, mj < 6 ∧ m = nI mj ∧ M.testBit mj = true ∧ U = M ∧ r = nI 1 ∧ Inv M (M ^^^ 2 ^ mj) T σ'
theorem Inv.set1 {M U U' : Nat} {T : Tr} {σ : St} (h : Inv M U T σ) : Inv M U' T (up2 σ 0 1 (nI U')) := by
  obtain ⟨⟨ll, hl, c1, c2, c3, c4⟩, hd, hq⟩ := h
  exact ⟨⟨ll, hl, c1, rfl, c3, c4⟩, hd.congr rfl rfl rfl rfl rfl rfl hd.2.2.2.2, hq⟩
theorem Cf.set1 {M U U' : Nat} {σ : St} (h : Cf M U σ) : Cf M U' (up2 σ 0 1 (nI U')) := by
  obtain ⟨ll, hl, c1, c2, c3, c4⟩ := h
  exact ⟨ll, hl, c1, rfl, c3, c4⟩
theorem Dat.set0 {T : Tr} {σ : St} (hd : Dat T σ) {i : Nat} (hi : i ≠ 15) (v : Int32) : Dat T (up2 σ 0 i v) := hd.congr rfl rfl rfl rfl rfl rfl (by rw [up2_n (fun h => hi h.symm)]; exact hd.2.2.2.2)

set_option maxHeartbeats 4000000 in
set_option maxRecDepth 100000 in
theorem c_r_handOver (l : Launch) (a : Nat) (m : Nat) (M : Nat) (U : Nat) (T : Tr) (ha6 : a < 6) (hm6 : m < 6) : rCv wr tr_ l y_r_handOver w_r_handOver 1 23 [.int (nI a), .int (nI m)] (fun σ => Cf M U σ ∧ Dat T σ) (fun σ σ' => Cf M U σ' ∧ Dat T σ' ∧ Mono T σ σ') := by
  refine rCv.mk (b := b_r_handOver) (nL := 5) R_rr (by decide) rfl (Nat.le_of_ble_eq_true rfl) ?_
  intro D ad cs σ0 ⟨hcf, hdat⟩ p e s mi args below meth c A S hr hlk hw ls hl
  have hx := S.1
  have hb := S.2.1
  have hts := S.2.2.2.2
  have hown := S.2.2.2.1
  have hl : lv_has ls 5 [(0, .ref (ad 0)), (1, .int (nI a)), (2, .int (nI m))] := hl
  refine lv_iconst (v := nI 0) hx hb d_r_handOver_0 (by decide) ?_
  refine lv_istore_n (lv' := [(3, .int (nI 0)), (0, .ref (ad 0)), (1, .int (nI a)), (2, .int (nI m))]) hx hb d_r_handOver_1 rfl hl (by decide) rfl (fun ls hl => ?_)
  have L2 : ∀ (n : Nat) (k : Nat) (σ : St) (H : Heap) (locs : List Loc) (ls : Array Slot), k ≤ 16 → 17 ≤ k + n → Cf M U σ → Dat T σ → Mono T σ0 σ → rW wr tr_ D ad cs A s σ H locs → lv_has ls 5 [(0, .ref (ad 0)), (1, .int (nI a)), (2, .int (nI m)), (3, .int (nI k))] → W p l e { frames := 1, cells := 0, slots := 0, locals := 23 } s mi args below meth c H locs 0 0 (MQ below (va_Qv ((fun σ σ' => Cf M U σ' ∧ Dat T σ' ∧ Mono T σ σ') σ0) (rB wr tr_ D ad cs A) A) args s 0 0 A) (F0 mi 2 ls []) := by
    intro n
    induction n with
    | zero =>
      intro k σ H locs ls hk hn hcf2 hdat2 hmo2 hw hl
      omega
    | succ n ih2 =>
      intro k σ H locs ls hk hn hcf2 hdat2 hmo2 hw hl
      refine lv_iload_n hx hb d_r_handOver_2 rfl (lv_at hl 3 rfl) ?_
      refine lv_bipush (v := nI 16) hx hb d_r_handOver_3 (by decide) ?_
      refine ln_icmp_ge (tgt := 93) hx hb d_r_handOver_5 (by decide) (⟨by omega, by omega⟩) (fun c_5 => ?_) (fun c_5 => ?_)
      · exact r_vret S hr hlk hw d_r_handOver_93 (⟨hcf2, hdat2, hmo2⟩)
      · refine lv_iload_n hx hb d_r_handOver_8 rfl (lv_at hl 1 rfl) ?_
        refine lv_bipush (v := nI 6) hx hb d_r_handOver_9 (by decide) ?_
        refine ln_imul hx hb d_r_handOver_11 ?_
        refine lv_iload_n hx hb d_r_handOver_12 rfl (lv_at hl 2 rfl) ?_
        refine ln_iadd hx hb d_r_handOver_13 ?_
        refine lv_bipush (v := nI 16) hx hb d_r_handOver_14 (by decide) ?_
        refine ln_imul hx hb d_r_handOver_16 ?_
        refine lv_iload_n hx hb d_r_handOver_17 rfl (lv_at hl 3 rfl) ?_
        refine ln_iadd hx hb d_r_handOver_18 ?_
        refine lv_istore (lv' := [(4, .int (nI ((((a * 6) + m) * 16) + k))), (0, .ref (ad 0)), (1, .int (nI a)), (2, .int (nI m)), (3, .int (nI k))]) hx hb d_r_handOver_19 hl (by decide) rfl (fun ls hl => ?_)
        refine lv_aload_n hx hb d_r_handOver_21 rfl (lv_at hl 1 rfl) ?_
        refine rg_8 S hw d_r_handOver_22 ?_
        refine lv_iload hx hb d_r_handOver_25 (lv_at hl 0 rfl) ?_
        refine rl_8 S hw d_r_handOver_27 (by omega) ?_
        refine lv_if_le (tgt := 87) hx hb d_r_handOver_28 (by decide) (fun c_28 => ?_) (fun c_28 => ?_)
        · refine ln_iinc (lv' := [(3, .int (nI (k + 1))), (4, .int (nI ((((a * 6) + m) * 16) + k))), (0, .ref (ad 0)), (1, .int (nI a)), (2, .int (nI m))]) hx hb d_r_handOver_87 hl (k := 4) rfl rfl (by decide) rfl (fun ls hl => ?_)
          refine lv_goto (tgt := 2) hx hb d_r_handOver_90 (by decide) ?_
          exact ih2 (k + 1) σ _ _ _ (by omega) (by omega) hcf2 hdat2 hmo2 hw (lv_sub hl [2, 3, 4, 0] rfl)
        · refine lv_aload_n hx hb d_r_handOver_31 rfl (lv_at hl 1 rfl) ?_
          refine lv_iload_n hx hb d_r_handOver_32 rfl (lv_at hl 2 rfl) ?_
          refine lv_iload_n hx hb d_r_handOver_33 rfl (lv_at hl 3 rfl) ?_
          refine r_calli (rest := []) S hw k_r_r_comesThrough (c_r_comesThrough l (nI a) (nI m)) (trivial) rfl rfl ⟨by decide, by decide⟩ rfl hl.1 rfl (Nat.le_of_ble_eq_true rfl) ⟨Nat.le_refl _, Nat.le_refl _⟩ d_r_handOver_34 (fun r1 σ1 H locs hq1 hw => ?_)
          have kc := hcf2.ct hq1
          have kd := hdat2.ct hq1
          have km := hmo2.tr (Mono.of5 (T := T) (ct_g hq1 (show 5 ≠ 0 by decide)))
          refine lv_if_eq (tgt := 87) hx hb d_r_handOver_37 (by decide) (fun c_37 => ?_) (fun c_37 => ?_)
          · refine ln_iinc (lv' := [(3, .int (nI (k + 1))), (4, .int (nI ((((a * 6) + m) * 16) + k))), (0, .ref (ad 0)), (1, .int (nI a)), (2, .int (nI m))]) hx hb d_r_handOver_87 hl (k := 4) rfl rfl (by decide) rfl (fun ls hl => ?_)
            refine lv_goto (tgt := 2) hx hb d_r_handOver_90 (by decide) ?_
            exact ih2 (k + 1) σ1 _ _ _ (by omega) (by omega) kc kd km hw (lv_sub hl [2, 3, 4, 0] rfl)
          · refine lv_aload_n hx hb d_r_handOver_40 rfl (lv_at hl 1 rfl) ?_
            refine lv_aload_n hx hb d_r_handOver_41 rfl (lv_at hl 1 rfl) ?_
            refine rg_8 S hw d_r_handOver_42 ?_
            refine lv_iload hx hb d_r_handOver_45 (lv_at hl 0 rfl) ?_
            refine rl_8 S hw d_r_handOver_47 (by omega) ?_
            refine rp_13 S hw d_r_handOver_48 (fun H locs hw => ?_)
            refine lv_aload_n hx hb d_r_handOver_51 rfl (lv_at hl 1 rfl) ?_
            refine lv_aload_n hx hb d_r_handOver_52 rfl (lv_at hl 1 rfl) ?_
            refine rg_9 S hw d_r_handOver_53 ?_
            refine lv_iload hx hb d_r_handOver_56 (lv_at hl 0 rfl) ?_
            refine rl_9 S hw d_r_handOver_58 (by omega) ?_
            refine rp_14 S hw d_r_handOver_59 (fun H locs hw => ?_)
            refine lv_aload_n hx hb d_r_handOver_62 rfl (lv_at hl 1 rfl) ?_
            refine lv_aload_n hx hb d_r_handOver_63 rfl (lv_at hl 1 rfl) ?_
            refine rg_10 S hw d_r_handOver_64 ?_
            refine lv_iload hx hb d_r_handOver_67 (lv_at hl 0 rfl) ?_
            refine rl_10 S hw d_r_handOver_69 (by omega) ?_
            refine rp_15 S hw d_r_handOver_70 (kd.2.2.2.1 _) (fun H locs hw => ?_)
            have hw : rW wr tr_ D ad cs A s (rgF σ1 ((a * 6 + m) * 16 + k)) H locs := hw
            refine lv_aload_n hx hb d_r_handOver_73 rfl (lv_at hl 1 rfl) ?_
            refine lv_iload_n hx hb d_r_handOver_74 rfl (lv_at hl 3 rfl) ?_
            refine lv_iload_n hx hb d_r_handOver_75 rfl (lv_at hl 4 rfl) ?_
            refine r_callv (rest := []) S hw k_r_r_store (c_r_store l m k (by omega) (by omega)) (kd.2.2.2.1 _) rfl rfl ⟨by decide, by decide⟩ rfl hl.1 rfl (Nat.le_of_ble_eq_true rfl) ⟨Nat.le_refl _, Nat.le_refl _⟩ d_r_handOver_76 (fun σ2 H locs hq2 hw => ?_)
            rw [hq2] at hw
            refine lv_aload_n hx hb d_r_handOver_79 rfl (lv_at hl 1 rfl) ?_
            refine rg_8 S hw d_r_handOver_80 ?_
            refine lv_iload hx hb d_r_handOver_83 (lv_at hl 0 rfl) ?_
            refine lv_iconst (v := nI 0) hx hb d_r_handOver_85 (by decide) ?_
            refine rs_8 S hw d_r_handOver_86 (by omega) (fun H locs hw => ?_)
            refine ln_iinc (lv' := [(3, .int (nI (k + 1))), (4, .int (nI ((((a * 6) + m) * 16) + k))), (0, .ref (ad 0)), (1, .int (nI a)), (2, .int (nI m))]) hx hb d_r_handOver_87 hl (k := 4) rfl rfl (by decide) rfl (fun ls hl => ?_)
            refine lv_goto (tgt := 2) hx hb d_r_handOver_90 (by decide) ?_
            have hz := ho_ok kc kd ha6 hm6 c_5
            exact ih2 (k + 1) (up2 (stF (rgF σ1 ((a * 6 + m) * 16 + k)) m k) 8 ((((a * 6) + m) * 16) + k) (nI 0)) _ _ _ (by omega) (by omega) hz.1 hz.2.1 (km.tr hz.2.2) hw (lv_sub hl [2, 3, 4, 0] rfl)
  exact L2 17 (0) σ0 _ _ _ (by omega) (by omega) hcf hdat Mono.rf hw (lv_sub hl [1, 2, 3, 0] rfl)

set_option maxHeartbeats 4000000 in
set_option maxRecDepth 100000 in
theorem c_r_down (l : Launch) (m : Int32) (M : Nat) (U : Nat) (T : Tr) (hM : okM M) (hU : okW M U) : rCi wr tr_ l y_r_down w_r_down 2 41 [.int (m)] (Inv M U T) (dnP M U T m) := by
  refine rCi.mk (b := b_r_down) (nL := 2) (rt := .boolean) R_rr (by decide) rfl (Nat.le_of_ble_eq_true rfl) ?_
  intro D ad cs σ0 hinv p e s mi args below meth c A S hr hlk hw ls hl
  have hx := S.1
  have hb := S.2.1
  have hts := S.2.2.2.2
  have hown := S.2.2.2.1
  have hl : lv_has ls 2 [(0, .ref (ad 0)), (1, .int (m))] := hl
  have hMl := hM.1
  have hUl := hU.1
  refine lv_aload_n hx hb d_r_down_0 rfl (lv_at hl 0 rfl) ?_
  refine lv_iload_n hx hb d_r_down_1 rfl (lv_at hl 1 rfl) ?_
  refine r_calli (rest := []) S hw k_r_r_isWorking (c_r_isWorking l (m) U (hU.1)) (hinv.1.u) rfl rfl ⟨by decide, by decide⟩ rfl hl.1 rfl (Nat.le_of_ble_eq_true rfl) ⟨Nat.le_refl _, Nat.le_refl _⟩ d_r_down_2 (fun r1 σ1 H locs hq1 hw => ?_)
  obtain ⟨es1, er1⟩ := hq1
  rw [es1] at hw
  refine ln_top (er1) ?_
  refine lb_if_eq (tgt := 19) hx hb d_r_down_5 (by decide) (fun c_5 => ?_) (fun c_5 => ?_)
  · refine lv_iconst (v := nI 0) hx hb d_r_down_19 (by decide) ?_
    exact r_zret S hr hlk hw d_r_down_20 (isB_n0) (Or.inl ⟨fun h => by first | exact c_5 h.1 | exact c_16 h.2, rfl, rfl⟩)
  · refine lv_aload_n hx hb d_r_down_8 rfl (lv_at hl 0 rfl) ?_
    refine rg_1 S hw d_r_down_9 ?_
    refine ln_top (hinv.1.u) ?_
    refine lv_aload_n hx hb d_r_down_12 rfl (lv_at hl 0 rfl) ?_
    refine rg_0 S hw d_r_down_13 ?_
    refine ln_top (hinv.1.m) ?_
    refine ln_icmp_eq (tgt := 21) hx hb d_r_down_16 (by decide) (⟨by omega, by omega⟩) (fun c_16 => ?_) (fun c_16 => ?_)
    · obtain ⟨mj, hmj, emj, hbU⟩ := mem_of c_5
      subst emj
      have hbM := hU.2.1 mj hbU
      refine lv_aload_n hx hb d_r_down_21 rfl (lv_at hl 0 rfl) ?_
      refine lv_dup hx hb d_r_down_22 rfl ?_
      refine rg_1 S hw d_r_down_23 ?_
      refine ln_top (hinv.1.u) ?_
      refine lv_iconst (v := nI 1) hx hb d_r_down_26 (by decide) ?_
      refine lv_iload_n hx hb d_r_down_27 rfl (lv_at hl 1 rfl) ?_
      refine lv_ishl hx hb d_r_down_28 ?_
      refine lv_iconst (v := (-1)) hx hb d_r_down_29 (by decide) ?_
      refine lv_ixor hx hb d_r_down_30 ?_
      refine lv_iand hx hb d_r_down_31 ?_
      refine ln_top (show nI U &&& ((nI 1 <<< (nI mj &&& 31)) ^^^ (-1)) = nI (M ^^^ 2 ^ mj) from by rw [c_16]; exact (and6 M hM.1 mj hmj hbM).1) ?_
      refine rp_1 S hw d_r_down_32 (fun H locs hw => ?_)
      refine lv_iconst (v := nI 1) hx hb d_r_down_35 (by decide) ?_
      exact r_zret S hr hlk hw d_r_down_36 (isB_n1) (Or.inr ⟨mj, hmj, rfl, hbM, c_16, rfl, hinv.set1⟩)
    · refine lv_iconst (v := nI 0) hx hb d_r_down_19 (by decide) ?_
      exact r_zret S hr hlk hw d_r_down_20 (isB_n0) (Or.inl ⟨fun h => by first | exact c_5 h.1 | exact c_16 h.2, rfl, rfl⟩)

set_option maxHeartbeats 4000000 in
set_option maxRecDepth 100000 in
theorem c_r_up (l : Launch) (m : Int32) (w : Int32) (M : Nat) (U : Nat) (T : Tr) (hM : okM M) (hU : okW M U) : rCi wr tr_ l y_r_up w_r_up 6 143 [.int (m), .int (w)] (Inv M U T) (upP M U T m) := by
  refine rCi.mk (b := b_r_up) (nL := 5) (rt := .boolean) R_rr (by decide) rfl (Nat.le_of_ble_eq_true rfl) ?_
  intro D ad cs σ0 hinv p e s mi args below meth c A S hr hlk hw ls hl
  have hx := S.1
  have hb := S.2.1
  have hts := S.2.2.2.2
  have hown := S.2.2.2.1
  have hl : lv_has ls 5 [(0, .ref (ad 0)), (1, .int (m)), (2, .int (w))] := hl
  refine lv_aload_n hx hb d_r_up_0 rfl (lv_at hl 0 rfl) ?_
  refine lv_iload_n hx hb d_r_up_1 rfl (lv_at hl 1 rfl) ?_
  refine r_calli (rest := []) S hw k_r_r_isMember (c_r_isMember l (m) M (hM.1)) (hinv.1.m) rfl rfl ⟨by decide, by decide⟩ rfl hl.1 rfl (Nat.le_of_ble_eq_true rfl) ⟨Nat.le_refl _, Nat.le_refl _⟩ d_r_up_2 (fun r1 σ1 H locs hq1 hw => ?_)
  obtain ⟨es1, er1⟩ := hq1
  rw [es1] at hw
  refine ln_top (er1) ?_
  refine lb_if_eq (tgt := 16) hx hb d_r_up_5 (by decide) (fun c_5 => ?_) (fun c_5 => ?_)
  · refine lv_iconst (v := nI 0) hx hb d_r_up_16 (by decide) ?_
    exact r_zret S hr hlk hw d_r_up_17 (isB_n0) (Or.inl ⟨fun h => by first | exact c_5 h.1 | exact h.2 c_13, rfl, rfl⟩)
  · refine lv_aload_n hx hb d_r_up_8 rfl (lv_at hl 0 rfl) ?_
    refine lv_iload_n hx hb d_r_up_9 rfl (lv_at hl 1 rfl) ?_
    refine r_calli (rest := []) S hw k_r_r_isWorking (c_r_isWorking l (m) U (hU.1)) (hinv.1.u) rfl rfl ⟨by decide, by decide⟩ rfl hl.1 rfl (Nat.le_of_ble_eq_true rfl) ⟨Nat.le_refl _, Nat.le_refl _⟩ d_r_up_10 (fun r2 σ2 H locs hq2 hw => ?_)
    obtain ⟨es2, er2⟩ := hq2
    rw [es2] at hw
    refine ln_top (er2) ?_
    refine lb_if_eq (tgt := 18) hx hb d_r_up_13 (by decide) (fun c_13 => ?_) (fun c_13 => ?_)
    · obtain ⟨mj, hmj, emj, hbM⟩ := mem_of c_5
      subst emj
      have hnU : ¬ U.testBit mj = true := fun h => c_13 ((mem_nI hmj).mpr h)
      refine lv_iconst (v := nI 0) hx hb d_r_up_18 (by decide) ?_
      have L76 : ∀ (σ : St) (H : Heap) (locs : List Loc) (ls : Array Slot), Cf M U σ → Dat T σ → (∀ x, x < 6 → x ≠ mj → ∀ j, j < 16 → hold T σ0 x j → hold T σ x j) → rW wr tr_ D ad cs A s σ H locs → lv_has ls 5 [(0, .ref (ad 0)), (1, .int (nI mj))] → W p l e { frames := 6, cells := 0, slots := 0, locals := 143 } s mi args below meth c H locs 0 0 (MQ below (va_Qi ((upP M U T (nI mj)) σ0) (rB wr tr_ D ad cs A) A) args s 0 0 A) (F0 mi 76 ls []) := by
        intro σ H locs ls hcf2 hdat2 hkeep hw hl
        refine lv_aload_n hx hb d_r_up_76 rfl (lv_at hl 0 rfl) ?_
        refine lv_dup hx hb d_r_up_77 rfl ?_
        refine rg_1 S hw d_r_up_78 ?_
        refine ln_top (hcf2.u) ?_
        refine lv_iconst (v := nI 1) hx hb d_r_up_81 (by decide) ?_
        refine lv_iload_n hx hb d_r_up_82 rfl (lv_at hl 1 rfl) ?_
        refine lv_ishl hx hb d_r_up_83 ?_
        refine lv_ior hx hb d_r_up_84 ?_
        refine ln_top ((or6 U hU.1 mj hmj).1.trans (congrArg nI (upM hM hU hmj hbM hnU))) ?_
        refine rp_1 S hw d_r_up_85 (fun H locs hw => ?_)
        refine lv_iconst (v := nI 0) hx hb d_r_up_88 (by decide) ?_
        refine lv_istore_n (lv' := [(3, .int (nI 0)), (0, .ref (ad 0)), (1, .int (nI mj))]) hx hb d_r_up_89 rfl hl (by decide) rfl (fun ls hl => ?_)
        have L90 : ∀ (n : Nat) (h : Nat) (σ : St) (H : Heap) (locs : List Loc) (ls : Array Slot), h ≤ 6 → 7 ≤ h + n → Cf M M σ → Dat T σ → (∀ x, x < 6 → x ≠ mj → ∀ j, j < 16 → hold T σ0 x j → hold T σ x j) → rW wr tr_ D ad cs A s σ H locs → lv_has ls 5 [(0, .ref (ad 0)), (1, .int (nI mj)), (3, .int (nI h))] → W p l e { frames := 6, cells := 0, slots := 0, locals := 143 } s mi args below meth c H locs 0 0 (MQ below (va_Qi ((upP M U T (nI mj)) σ0) (rB wr tr_ D ad cs A) A) args s 0 0 A) (F0 mi 90 ls []) := by
          intro n
          induction n with
          | zero =>
            intro h σ H locs ls hh hn hcf2 hdat2 hkeep hw hl
            omega
          | succ n ih90 =>
            intro h σ H locs ls hh hn hcf2 hdat2 hkeep hw hl
            refine lv_iload_n hx hb d_r_up_90 rfl (lv_at hl 2 rfl) ?_
            refine lv_bipush (v := nI 6) hx hb d_r_up_91 (by decide) ?_
            refine ln_icmp_ge (tgt := 116) hx hb d_r_up_93 (by decide) (⟨by omega, by omega⟩) (fun c_93 => ?_) (fun c_93 => ?_)
            · refine lv_iconst (v := nI 0) hx hb d_r_up_116 (by decide) ?_
              refine lv_istore_n (lv' := [(3, .int (nI 0)), (0, .ref (ad 0)), (1, .int (nI mj))]) hx hb d_r_up_117 rfl hl (by decide) rfl (fun ls hl => ?_)
              have L118 : ∀ (n : Nat) (q : Nat) (σ : St) (H : Heap) (locs : List Loc) (ls : Array Slot), q ≤ 6 → 7 ≤ q + n → Cf M M σ → Dat T σ → (∀ x, x < 6 → x ≠ mj → ∀ j, j < 16 → hold T σ0 x j → hold T σ x j) → (∀ o, o < q → o ≠ mj → M.testBit o = true → ∀ j, j < 16 → kpm M j mj → kpm M j o → hold T σ0 o j → hold T σ mj j ∧ hold T σ o j) → rW wr tr_ D ad cs A s σ H locs → lv_has ls 5 [(0, .ref (ad 0)), (1, .int (nI mj)), (3, .int (nI q))] → W p l e { frames := 6, cells := 0, slots := 0, locals := 143 } s mi args below meth c H locs 0 0 (MQ below (va_Qi ((upP M U T (nI mj)) σ0) (rB wr tr_ D ad cs A) A) args s 0 0 A) (F0 mi 118 ls []) := by
                intro n
                induction n with
                | zero =>
                  intro q σ H locs ls hq hn hcf2 hdat2 hkeep hdn hw hl
                  omega
                | succ n ih118 =>
                  intro q σ H locs ls hq hn hcf2 hdat2 hkeep hdn hw hl
                  refine lv_iload_n hx hb d_r_up_118 rfl (lv_at hl 2 rfl) ?_
                  refine lv_bipush (v := nI 6) hx hb d_r_up_119 (by decide) ?_
                  refine ln_icmp_ge (tgt := 149) hx hb d_r_up_121 (by decide) (⟨by omega, by omega⟩) (fun c_121 => ?_) (fun c_121 => ?_)
                  · refine lv_iconst (v := nI 1) hx hb d_r_up_149 (by decide) ?_
                    exact r_zret S hr hlk hw d_r_up_150 (isB_n1) (Or.inr ⟨mj, hmj, rfl, hbM, hnU, rfl, hcf2, hdat2, fun k hk => up_quor hM hk (hinv.2.2 k hk) hkeep (fun o ho => hdn o (by omega))⟩)
                  · refine lv_iload_n hx hb d_r_up_124 rfl (lv_at hl 2 rfl) ?_
                    refine lv_iload_n hx hb d_r_up_125 rfl (lv_at hl 1 rfl) ?_
                    refine ln_icmp_eq (tgt := 143) hx hb d_r_up_126 (by decide) (⟨by omega, by omega⟩) (fun c_126 => ?_) (fun c_126 => ?_)
                    · refine ln_iinc (lv' := [(3, .int (nI (q + 1))), (0, .ref (ad 0)), (1, .int (nI mj))]) hx hb d_r_up_143 hl (k := 2) rfl rfl (by decide) rfl (fun ls hl => ?_)
                      refine lv_goto (tgt := 118) hx hb d_r_up_146 (by decide) ?_
                      exact ih118 (q + 1) σ _ _ _ (by omega) (by omega) hcf2 hdat2 hkeep (fun o ho h1 h2 j hj k1 k2 z => by
                            by_cases e : o = q
                            · subst e; first | exact absurd c_126 h1 | exact absurd h2 c_134
                            · exact hdn o (by omega) h1 h2 j hj k1 k2 z) hw (lv_sub hl [1, 2, 0] rfl)
                    · refine lv_aload_n hx hb d_r_up_129 rfl (lv_at hl 0 rfl) ?_
                      refine lv_iload_n hx hb d_r_up_130 rfl (lv_at hl 2 rfl) ?_
                      refine r_calli (rest := []) S hw k_r_r_isWorking (c_r_isWorking l (nI q) M (hM.1)) (hcf2.u) rfl rfl ⟨by decide, by decide⟩ rfl hl.1 rfl (Nat.le_of_ble_eq_true rfl) ⟨Nat.le_refl _, Nat.le_refl _⟩ d_r_up_131 (fun r3 σ3 H locs hq3 hw => ?_)
                      obtain ⟨es3, er3⟩ := hq3
                      rw [es3] at hw
                      refine ln_top (er3.trans (bI_congr (mem_nI (by omega)))) ?_
                      refine lb_if_eq (tgt := 143) hx hb d_r_up_134 (by decide) (fun c_134 => ?_) (fun c_134 => ?_)
                      · refine ln_iinc (lv' := [(3, .int (nI (q + 1))), (0, .ref (ad 0)), (1, .int (nI mj))]) hx hb d_r_up_143 hl (k := 2) rfl rfl (by decide) rfl (fun ls hl => ?_)
                        refine lv_goto (tgt := 118) hx hb d_r_up_146 (by decide) ?_
                        exact ih118 (q + 1) σ _ _ _ (by omega) (by omega) hcf2 hdat2 hkeep (fun o ho h1 h2 j hj k1 k2 z => by
                              by_cases e : o = q
                              · subst e; first | exact absurd c_126 h1 | exact absurd h2 c_134
                              · exact hdn o (by omega) h1 h2 j hj k1 k2 z) hw (lv_sub hl [1, 2, 0] rfl)
                      · refine lv_aload_n hx hb d_r_up_137 rfl (lv_at hl 0 rfl) ?_
                        refine lv_iload_n hx hb d_r_up_138 rfl (lv_at hl 1 rfl) ?_
                        refine lv_iload_n hx hb d_r_up_139 rfl (lv_at hl 2 rfl) ?_
                        refine r_callv (rest := []) S hw k_r_r_compare (c_r_compare l mj q M M T (by omega) (by omega) hM) (⟨hcf2, hdat2⟩) rfl rfl ⟨by decide, by decide⟩ rfl hl.1 rfl (Nat.le_of_ble_eq_true rfl) ⟨Nat.le_refl _, Nat.le_refl _⟩ d_r_up_140 (fun σ4 H locs hq4 hw => ?_)
                        refine ln_iinc (lv' := [(3, .int (nI (q + 1))), (0, .ref (ad 0)), (1, .int (nI mj))]) hx hb d_r_up_143 hl (k := 2) rfl rfl (by decide) rfl (fun ls hl => ?_)
                        refine lv_goto (tgt := 118) hx hb d_r_up_146 (by decide) ?_
                        exact ih118 (q + 1) σ4 _ _ _ (by omega) (by omega) hq4.1 hq4.2.1 (fun x h1 h2 j hj z => hq4.2.2.1 x h1 j hj (hkeep x h1 h2 j hj z)) (fun o ho h1 h2 j hj k1 k2 z => by
                              by_cases e : o = q
                              · subst e; exact hq4.2.2.2 j hj k1 k2 (Or.inr (hkeep o (by omega) h1 j hj z))
                              · have w := hdn o (by omega) h1 h2 j hj k1 k2 z
                                exact ⟨hq4.2.2.1 mj hmj j hj w.1, hq4.2.2.1 o (by omega) j hj w.2⟩) hw (lv_sub hl [1, 2, 0] rfl)
              exact L118 7 (0) σ _ _ _ (by omega) (by omega) hcf2 hdat2 hkeep (fun o h => absurd h (Nat.not_lt_zero o)) hw (lv_sub hl [1, 2, 0] rfl)
            · refine lv_aload_n hx hb d_r_up_96 rfl (lv_at hl 0 rfl) ?_
              refine lv_iload_n hx hb d_r_up_97 rfl (lv_at hl 2 rfl) ?_
              refine r_calli (rest := []) S hw k_r_r_isWorking (c_r_isWorking l (nI h) M (hM.1)) (hcf2.u) rfl rfl ⟨by decide, by decide⟩ rfl hl.1 rfl (Nat.le_of_ble_eq_true rfl) ⟨Nat.le_refl _, Nat.le_refl _⟩ d_r_up_98 (fun r5 σ5 H locs hq5 hw => ?_)
              obtain ⟨es5, er5⟩ := hq5
              rw [es5] at hw
              refine ln_top (er5.trans (bI_congr (mem_nI (by omega)))) ?_
              refine lb_if_eq (tgt := 110) hx hb d_r_up_101 (by decide) (fun c_101 => ?_) (fun c_101 => ?_)
              · refine ln_iinc (lv' := [(3, .int (nI (h + 1))), (0, .ref (ad 0)), (1, .int (nI mj))]) hx hb d_r_up_110 hl (k := 2) rfl rfl (by decide) rfl (fun ls hl => ?_)
                refine lv_goto (tgt := 90) hx hb d_r_up_113 (by decide) ?_
                exact ih90 (h + 1) σ _ _ _ (by omega) (by omega) hcf2 hdat2 hkeep hw (lv_sub hl [1, 2, 0] rfl)
              · refine lv_aload_n hx hb d_r_up_104 rfl (lv_at hl 0 rfl) ?_
                refine lv_iload_n hx hb d_r_up_105 rfl (lv_at hl 2 rfl) ?_
                refine lv_iload_n hx hb d_r_up_106 rfl (lv_at hl 1 rfl) ?_
                refine r_callv (rest := []) S hw k_r_r_handOver (c_r_handOver l h mj M M T (by omega) (by omega)) (⟨hcf2, hdat2⟩) rfl rfl ⟨by decide, by decide⟩ rfl hl.1 rfl (Nat.le_of_ble_eq_true rfl) ⟨Nat.le_refl _, Nat.le_refl _⟩ d_r_up_107 (fun σ6 H locs hq6 hw => ?_)
                refine ln_iinc (lv' := [(3, .int (nI (h + 1))), (0, .ref (ad 0)), (1, .int (nI mj))]) hx hb d_r_up_110 hl (k := 2) rfl rfl (by decide) rfl (fun ls hl => ?_)
                refine lv_goto (tgt := 90) hx hb d_r_up_113 (by decide) ?_
                exact ih90 (h + 1) σ6 _ _ _ (by omega) (by omega) hq6.1 hq6.2.1 (fun x h1 h2 j hj z => hq6.2.2 x h1 j hj (hkeep x h1 h2 j hj z)) hw (lv_sub hl [1, 2, 0] rfl)
        exact L90 7 (0) (up2 σ 0 1 (nI M)) _ _ _ (by omega) (by omega) hcf2.set1 (hdat2.set0 (by decide) _) hkeep hw (lv_sub hl [1, 2, 0] rfl)
      refine lv_istore_n (lv' := [(3, .int (nI 0)), (0, .ref (ad 0)), (1, .int (nI mj)), (2, .int (w))]) hx hb d_r_up_19 rfl hl (by decide) rfl (fun ls hl => ?_)
      have L20 : ∀ (n : Nat) (k : Nat) (σ : St) (H : Heap) (locs : List Loc) (ls : Array Slot), k ≤ 16 → 17 ≤ k + n → Cf M U σ → Dat T σ → (∀ x, x < 6 → x ≠ mj → ∀ j, j < 16 → hold T σ0 x j → hold T σ x j) → rW wr tr_ D ad cs A s σ H locs → lv_has ls 5 [(0, .ref (ad 0)), (1, .int (nI mj)), (2, .int (w)), (3, .int (nI k))] → W p l e { frames := 6, cells := 0, slots := 0, locals := 143 } s mi args below meth c H locs 0 0 (MQ below (va_Qi ((upP M U T (nI mj)) σ0) (rB wr tr_ D ad cs A) A) args s 0 0 A) (F0 mi 20 ls []) := by
        intro n
        induction n with
        | zero =>
          intro k σ H locs ls hk hn hcf2 hdat2 hkeep hw hl
          omega
        | succ n ih20 =>
          intro k σ H locs ls hk hn hcf2 hdat2 hkeep hw hl
          refine lv_iload_n hx hb d_r_up_20 rfl (lv_at hl 3 rfl) ?_
          refine lv_bipush (v := nI 16) hx hb d_r_up_21 (by decide) ?_
          refine ln_icmp_ge (tgt := 76) hx hb d_r_up_23 (by decide) (⟨by omega, by omega⟩) (fun c_23 => ?_) (fun c_23 => ?_)
          · exact L76 σ _ _ _ hcf2 hdat2 hkeep hw (lv_sub hl [0, 1] rfl)
          · refine lv_iload_n hx hb d_r_up_26 rfl (lv_at hl 2 rfl) ?_
            refine lv_if_eq (tgt := 76) hx hb d_r_up_27 (by decide) (fun c_27 => ?_) (fun c_27 => ?_)
            · exact L76 σ _ _ _ hcf2 hdat2 hkeep hw (lv_sub hl [0, 1] rfl)
            · refine lv_aload_n hx hb d_r_up_30 rfl (lv_at hl 0 rfl) ?_
              refine lv_iload_n hx hb d_r_up_31 rfl (lv_at hl 1 rfl) ?_
              refine lv_iload_n hx hb d_r_up_32 rfl (lv_at hl 3 rfl) ?_
              refine r_callv (rest := []) S hw k_r_r_erase (c_r_erase l mj k (by omega) (by omega)) (trivial) rfl rfl ⟨by decide, by decide⟩ rfl hl.1 rfl (Nat.le_of_ble_eq_true rfl) ⟨Nat.le_refl _, Nat.le_refl _⟩ d_r_up_33 (fun σ7 H locs hq7 hw => ?_)
              rw [hq7] at hw
              refine lv_iconst (v := nI 0) hx hb d_r_up_36 (by decide) ?_
              refine lv_istore (lv' := [(4, .int (nI 0)), (0, .ref (ad 0)), (1, .int (nI mj)), (2, .int (w)), (3, .int (nI k))]) hx hb d_r_up_37 hl (by decide) rfl (fun ls hl => ?_)
              have L39 : ∀ (n : Nat) (j : Nat) (σ : St) (H : Heap) (locs : List Loc) (ls : Array Slot), j ≤ 6 → 7 ≤ j + n → Cf M U σ → Dat T σ → (∀ x, x < 6 → x ≠ mj → ∀ j, j < 16 → hold T σ0 x j → hold T σ x j) → rW wr tr_ D ad cs A s σ H locs → lv_has ls 5 [(0, .ref (ad 0)), (1, .int (nI mj)), (2, .int (w)), (3, .int (nI k)), (4, .int (nI j))] → W p l e { frames := 6, cells := 0, slots := 0, locals := 143 } s mi args below meth c H locs 0 0 (MQ below (va_Qi ((upP M U T (nI mj)) σ0) (rB wr tr_ D ad cs A) A) args s 0 0 A) (F0 mi 39 ls []) := by
                intro n
                induction n with
                | zero =>
                  intro j σ H locs ls hj hn hcf2 hdat2 hkeep hw hl
                  omega
                | succ n ih39 =>
                  intro j σ H locs ls hj hn hcf2 hdat2 hkeep hw hl
                  refine lv_iload hx hb d_r_up_39 (lv_at hl 4 rfl) ?_
                  refine lv_bipush (v := nI 6) hx hb d_r_up_41 (by decide) ?_
                  refine ln_icmp_ge (tgt := 70) hx hb d_r_up_43 (by decide) (⟨by omega, by omega⟩) (fun c_43 => ?_) (fun c_43 => ?_)
                  · refine ln_iinc (lv' := [(3, .int (nI (k + 1))), (0, .ref (ad 0)), (1, .int (nI mj)), (2, .int (w)), (4, .int (nI j))]) hx hb d_r_up_70 hl (k := 3) rfl rfl (by decide) rfl (fun ls hl => ?_)
                    refine lv_goto (tgt := 20) hx hb d_r_up_73 (by decide) ?_
                    exact ih20 (k + 1) σ _ _ _ (by omega) (by omega) hcf2 hdat2 hkeep hw (lv_sub hl [1, 2, 3, 0] rfl)
                  · refine lv_aload_n hx hb d_r_up_46 rfl (lv_at hl 0 rfl) ?_
                    refine rg_8 S hw d_r_up_47 ?_
                    refine lv_iload_n hx hb d_r_up_50 rfl (lv_at hl 1 rfl) ?_
                    refine lv_bipush (v := nI 6) hx hb d_r_up_51 (by decide) ?_
                    refine ln_imul hx hb d_r_up_53 ?_
                    refine lv_iload hx hb d_r_up_54 (lv_at hl 4 rfl) ?_
                    refine ln_iadd hx hb d_r_up_56 ?_
                    refine lv_bipush (v := nI 16) hx hb d_r_up_57 (by decide) ?_
                    refine ln_imul hx hb d_r_up_59 ?_
                    refine lv_iload_n hx hb d_r_up_60 rfl (lv_at hl 3 rfl) ?_
                    refine ln_iadd hx hb d_r_up_61 ?_
                    refine lv_iconst (v := nI 0) hx hb d_r_up_62 (by decide) ?_
                    refine rs_8 S hw d_r_up_63 (by omega) (fun H locs hw => ?_)
                    refine ln_iinc (lv' := [(4, .int (nI (j + 1))), (0, .ref (ad 0)), (1, .int (nI mj)), (2, .int (w)), (3, .int (nI k))]) hx hb d_r_up_64 hl (k := 4) rfl rfl (by decide) rfl (fun ls hl => ?_)
                    refine lv_goto (tgt := 39) hx hb d_r_up_67 (by decide) ?_
                    exact ih39 (j + 1) (up2 σ 8 ((((mj * 6) + j) * 16) + k) (nI 0)) _ _ _ (by omega) (by omega) (hcf2.congr rfl rfl rfl rfl rfl rfl) (hz_dat hdat2 _) hkeep hw (lv_sub hl [1, 2, 3, 4, 0] rfl)
              exact L39 7 (0) (erF σ mj k) _ _ _ (by omega) (by omega) (hcf2.er _ _) (erF_dat hdat2 hmj (by omega)) (fun x h1 h2 j hj h => er_hold (hkeep x h1 h2 j hj h) (by omega) hj (fun z => h2 z.1)) hw (lv_sub hl [1, 2, 3, 4, 0] rfl)
      exact L20 17 (0) σ0 _ _ _ (by omega) (by omega) hinv.1 hinv.2.1 (fun _ _ _ _ _ h => h) hw (lv_sub hl [1, 2, 3, 0] rfl)
    · refine lv_iconst (v := nI 0) hx hb d_r_up_16 (by decide) ?_
      exact r_zret S hr hlk hw d_r_up_17 (isB_n0) (Or.inl ⟨fun h => by first | exact c_5 h.1 | exact h.2 c_13, rfl, rfl⟩)

set_option maxHeartbeats 4000000 in
set_option maxRecDepth 100000 in
theorem c_r_leader (l : Launch) (U : Nat) (hU6 : U < 64) (hex : ∃ j, j < 5 ∧ U.testBit j = true) : rCi wr tr_ l y_r_leader w_r_leader 2 41 [] (fun σ => σ 0 1 = nI U) (fun σ r σ' => ∃ j, j < 6 ∧ r = nI j ∧ U.testBit j = true ∧ σ' = σ) := by
  refine rCi.mk (b := b_r_leader) (nL := 2) (rt := .int) R_rr (by decide) rfl (Nat.le_of_ble_eq_true rfl) ?_
  intro D ad cs σ0 hpre p e s mi args below meth c A S hr hlk hw ls hl
  have hx := S.1
  have hb := S.2.1
  have hts := S.2.2.2.2
  have hown := S.2.2.2.1
  have hl : lv_has ls 2 [(0, .ref (ad 0))] := hl
  refine lv_iconst (v := nI 0) hx hb d_r_leader_0 (by decide) ?_
  refine lv_istore_n (lv' := [(1, .int (nI 0)), (0, .ref (ad 0))]) hx hb d_r_leader_1 rfl hl (by decide) rfl (fun ls hl => ?_)
  have L2 : ∀ (n : Nat) (i : Nat) (σ : St) (H : Heap) (locs : List Loc) (ls : Array Slot), i ≤ 5 → 6 ≤ i + n → (∀ j, j < i → ¬ U.testBit j = true) → σ = σ0 → rW wr tr_ D ad cs A s σ H locs → lv_has ls 2 [(0, .ref (ad 0)), (1, .int (nI i))] → W p l e { frames := 2, cells := 0, slots := 0, locals := 41 } s mi args below meth c H locs 0 0 (MQ below (va_Qi ((fun σ r σ' => ∃ j, j < 6 ∧ r = nI j ∧ U.testBit j = true ∧ σ' = σ) σ0) (rB wr tr_ D ad cs A) A) args s 0 0 A) (F0 mi 2 ls []) := by
    intro n
    induction n with
    | zero =>
      intro i σ H locs ls hi hn hno hw0 hw hl
      omega
    | succ n ih2 =>
      intro i σ H locs ls hi hn hno hw0 hw hl
      refine lv_iload_n hx hb d_r_leader_2 rfl (lv_at hl 1 rfl) ?_
      refine lv_iconst (v := nI 5) hx hb d_r_leader_3 (by decide) ?_
      refine ln_icmp_ge (tgt := 21) hx hb d_r_leader_4 (by decide) (⟨by omega, by omega⟩) (fun c_4 => ?_) (fun c_4 => ?_)
      · refine lv_iload_n hx hb d_r_leader_21 rfl (lv_at hl 1 rfl) ?_
        exact r_iret S hr hlk hw d_r_leader_22 (⟨i, by omega, rfl, by first | exact c_12 | (obtain ⟨j, hj, hb⟩ := hex; exact absurd hb (hno j (by omega))), hw0⟩)
      · refine lv_aload_n hx hb d_r_leader_7 rfl (lv_at hl 0 rfl) ?_
        refine lv_iload_n hx hb d_r_leader_8 rfl (lv_at hl 1 rfl) ?_
        refine r_calli (rest := []) S hw k_r_r_isWorking (c_r_isWorking l (nI i) U (hU6)) (by rw [hw0]; exact hpre) rfl rfl ⟨by decide, by decide⟩ rfl hl.1 rfl (Nat.le_of_ble_eq_true rfl) ⟨Nat.le_refl _, Nat.le_refl _⟩ d_r_leader_9 (fun r1 σ1 H locs hq1 hw => ?_)
        obtain ⟨es1, er1⟩ := hq1
        rw [es1] at hw
        refine ln_top (er1.trans (bI_congr (mem_nI (by omega)))) ?_
        refine lb_if_ne (tgt := 21) hx hb d_r_leader_12 (by decide) (fun c_12 => ?_) (fun c_12 => ?_)
        · refine lv_iload_n hx hb d_r_leader_21 rfl (lv_at hl 1 rfl) ?_
          exact r_iret S hr hlk hw d_r_leader_22 (⟨i, by omega, rfl, by first | exact c_12 | (obtain ⟨j, hj, hb⟩ := hex; exact absurd hb (hno j (by omega))), hw0⟩)
        · refine ln_iinc (lv' := [(1, .int (nI (i + 1))), (0, .ref (ad 0))]) hx hb d_r_leader_15 hl (k := 1) rfl rfl (by decide) rfl (fun ls hl => ?_)
          refine lv_goto (tgt := 2) hx hb d_r_leader_18 (by decide) ?_
          exact ih2 (i + 1) σ _ _ _ (by omega) (by omega) (fun j hj => by
                by_cases e : j = i
                · subst e; exact c_12
                · exact hno j (by omega)) hw0 hw (lv_sub hl [1, 0] rfl)
  exact L2 6 (0) σ0 _ _ _ (by omega) (by omega) (fun j h => absurd h (Nat.not_lt_zero j)) rfl hw (lv_sub hl [1, 0] rfl)
end
section
/-- nobody has what it doesn't keep: what the keepers have stays -/
def drP (M : Nat) (T : Tr) (σ σ' : St) : Prop := Cf M M σ' ∧ Dat T σ' ∧ ∀ x, x < 6 → ∀ j, j < 16 → kpm M j x → M.testBit x = true → hold T σ x j → hold T σ' x j
theorem lr_cf {M ll : Nat} {σ σ1 : St} (hl : ll ≤ 30) (h20 : σ 0 20 = nI ll) (hL : Lay σ1 (layR M 24)) (hf : ∀ x y, x ≠ 3 → x ≠ 4 → ¬ (x = 0 ∧ y = 2) → σ1 x y = (up2 (up2 σ 0 0 (nI M)) 0 1 (nI M)) x y) : CfL M M ll σ1 :=
  ⟨(hf 0 0 (by decide) (by decide) (by decide)).trans rfl, (hf 0 1 (by decide) (by decide) (by decide)).trans rfl, hL, (hf 0 20 (by decide) (by decide) (by decide)).trans h20⟩
theorem lr_g {M : Nat} {σ σ1 : St} (hf : ∀ x y, x ≠ 3 → x ≠ 4 → ¬ (x = 0 ∧ y = 2) → σ1 x y = (up2 (up2 σ 0 0 (nI M)) 0 1 (nI M)) x y) {x : Nat} (h0 : x ≠ 0) (h3 : x ≠ 3) (h4 : x ≠ 4) : σ1 x = σ x := by
  funext y; rw [hf x y h3 h4 (fun q => h0 q.1), up2_g h0, up2_g h0]
theorem lr_f {M : Nat} {σ σ1 : St} (hf : ∀ x y, x ≠ 3 → x ≠ 4 → ¬ (x = 0 ∧ y = 2) → σ1 x y = (up2 (up2 σ 0 0 (nI M)) 0 1 (nI M)) x y) {y : Nat} (h0 : y ≠ 0) (h1 : y ≠ 1) (h2 : y ≠ 2) : σ1 0 y = σ 0 y := by
  rw [hf 0 y (by decide) (by decide) (fun q => h2 q.2), up2_n h1, up2_n h0]
theorem lr_dat {M : Nat} {T : Tr} {σ σ1 : St} (hd : Dat T σ) (hf : ∀ x y, x ≠ 3 → x ≠ 4 → ¬ (x = 0 ∧ y = 2) → σ1 x y = (up2 (up2 σ 0 0 (nI M)) 0 1 (nI M)) x y) : Dat T σ1 ∧ Mono T σ σ1 :=
  ⟨hd.congr (lr_g hf (by decide) (by decide) (by decide)) (lr_g hf (by decide) (by decide) (by decide)) (lr_g hf (by decide) (by decide) (by decide)) (lr_g hf (by decide) (by decide) (by decide)) (lr_g hf (by decide) (by decide) (by decide)) (lr_g hf (by decide) (by decide) (by decide)) (by rw [lr_f hf (by decide) (by decide) (by decide)]; exact hd.2.2.2.2), Mono.of5 (lr_g hf (by decide) (by decide) (by decide))⟩
def all3 (M : Nat) (T : Tr) (σ : St) (k : Nat) : Prop := ∀ i, i < 3 → hold T σ (kp M k i) k
theorem all3.mono {M : Nat} {T : Tr} {σ σ' : St} {k : Nat} (hM : okM M) (hk : k < 16) (h : all3 M T σ k) (hm : Mono T σ σ') : all3 M T σ' k := fun i hi => hm _ (kp_lt hM k hi).1 k hk (h i hi)
theorem all3.q {M : Nat} {T : Tr} {σ : St} {k : Nat} (h : all3 M T σ k) : quor M T σ k := ⟨0, by decide, 1, by decide, by decide, h 0 (by decide), h 1 (by decide)⟩
theorem zero_all {M : Nat} {T : Tr} {σ : St} {k : Nat} (hM : okM M) (hk : k < 16) (hd : Dat T σ) (h : (T k).1 ≤ 0) : all3 M T σ k := by
  intro i hi
  have q := hd.1 _ (kp_lt hM k hi).1 k hk
  have z : (T k).1.toInt ≤ 0 := by rw [Int32.le_iff_toInt_le] at h; exact h
  unfold hold
  exact Int32.toInt_inj.mp (by have := q.1; have := q.2.1; omega)
theorem regG.cg {T : Tr} {k : Nat} {σ σ' : St} (h : regG T σ k) (e1 : σ' 0 13 = σ 0 13) (e2 : σ' 0 14 = σ 0 14) (e3 : σ' 0 15 = σ 0 15) : regG T σ' k := by unfold regG; rw [e1, e2, e3]; exact h
def joP (M U : Nat) (T : Tr) (m : Int32) (σ : St) (r : Int32) (σ' : St) : Prop :=
  (¬ inM m 6 ∧ r = cBAD ∧ σ' = σ) ∨ (inM m 6 ∧ ¬ (¬ mem M m ∧ U = M) ∧ r = cREF ∧ σ' = σ) ∨
  ∃ mj, mj < 6 ∧ m = nI mj ∧ ¬ M.testBit mj = true ∧ U = M ∧ r = nI (cb (M ||| 2 ^ mj) 6) ∧ Inv (M ||| 2 ^ mj) (M ||| 2 ^ mj) T σ'
def leP (M U : Nat) (T : Tr) (m : Int32) (σ : St) (r : Int32) (σ' : St) : Prop :=
  (¬ inM m 6 ∧ r = cBAD ∧ σ' = σ) ∨ (inM m 6 ∧ ¬ (mem M m ∧ ¬ cb M 6 = 3 ∧ U = M) ∧ r = cREF ∧ σ' = σ) ∨
  ∃ mj, mj < 6 ∧ m = nI mj ∧ M.testBit mj = true ∧ ¬ cb M 6 = 3 ∧ U = M ∧ r = nI (cb (M ^^^ 2 ^ mj) 6) ∧ Inv (M ^^^ 2 ^ mj) (M ^^^ 2 ^ mj) T σ'
def loP (M U : Nat) (T : Tr) (n : Int32) (σ : St) (r : Int32) (σ' : St) : Prop :=
  (¬ (¬ n < 0 ∧ n ≤ nI 30) ∧ r = nI 0 ∧ σ' = σ) ∨ ((¬ n < 0 ∧ n ≤ nI 30) ∧ r = nI 1 ∧ Inv M U T σ')
theorem Inv.lose {M U : Nat} {T : Tr} {σ : St} (h : Inv M U T σ) {n : Int32} (h0 : ¬ n < 0) (h1 : n ≤ nI 30) : Inv M U T (up2 σ 0 20 n) := by
  obtain ⟨⟨ll, hl, c1, c2, c3, c4⟩, hd, hq⟩ := h
  obtain ⟨j, hj, e⟩ := nI_of2 (n := 30) (M := nI 30) (by decide) h0 h1
  exact ⟨⟨j, hj, c1, c2, c3, e⟩, hd.congr rfl rfl rfl rfl rfl rfl hd.2.2.2.2, hq⟩
def szN (T : Tr) : Nat → Nat
  | 0 => 0
  | k + 1 => szN T k + (if num T k = cNONE then 0 else 1)
theorem szN_le (T : Tr) : ∀ k, szN T k ≤ k
  | 0 => Nat.le_refl _
  | k + 1 => by have := szN_le T k; unfold szN; split <;> omega
def smN (T : Tr) : Nat → Int32
  | 0 => nI 0
  | k + 1 => smN T k + (if num T k = cNONE then nI 0 else num T k)
def nxN (T : Tr) : Nat → Nat → Int32
  | 0, _ => cNONE
  | n + 1, i => if num T i = cNONE then nxN T n (i + 1) else nI i
theorem nxN_y {T : Tr} {i : Nat} (hi : i < 16) (h : ¬ num T i = cNONE) : nxN T (16 - i) i = nI i := by
  rw [show 16 - i = (16 - (i + 1)) + 1 by omega]
  show (if num T i = cNONE then _ else nI i) = _
  rw [if_neg h]
theorem nxN_n {T : Tr} {i : Nat} (hi : i < 16) (h : num T i = cNONE) : nxN T (16 - i) i = nxN T (16 - (i + 1)) (i + 1) := by
  rw [show 16 - i = (16 - (i + 1)) + 1 by omega]
  show (if num T i = cNONE then _ else nI i) = _
  rw [if_pos h]
theorem nxN_e {T : Tr} {i : Nat} (hi : 16 ≤ i) : nxN T (16 - i) i = cNONE := by
  rw [show 16 - i = 0 by omega]; rfl
theorem neg_cl {x : Int32} (h : ¬ 0 ≤ x) : x.toNatClampNeg = 0 := by
  have h2 : x.toInt < 0 := by
    rw [Int32.le_iff_toInt_le] at h
    have : (0 : Int32).toInt = 0 := by decide
    omega
  show x.toInt.toNat = 0
  omega

set_option maxHeartbeats 4000000 in
set_option maxRecDepth 100000 in
theorem c_r_dropOthers (l : Launch) (M : Nat) (T : Tr) (hM : okM M) : rCv wr tr_ l y_r_dropOthers w_r_dropOthers 3 71 [] (fun σ => Cf M M σ ∧ Dat T σ) (drP M T) := by
  refine rCv.mk (b := b_r_dropOthers) (nL := 3) R_rr (by decide) rfl (Nat.le_of_ble_eq_true rfl) ?_
  intro D ad cs σ0 ⟨hcf, hdat⟩ p e s mi args below meth c A S hr hlk hw ls hl
  have hx := S.1
  have hb := S.2.1
  have hts := S.2.2.2.2
  have hown := S.2.2.2.1
  have hl : lv_has ls 3 [(0, .ref (ad 0))] := hl
  refine lv_iconst (v := nI 0) hx hb d_r_dropOthers_0 (by decide) ?_
  refine lv_istore_n (lv' := [(1, .int (nI 0)), (0, .ref (ad 0))]) hx hb d_r_dropOthers_1 rfl hl (by decide) rfl (fun ls hl => ?_)
  have L2 : ∀ (n : Nat) (m : Nat) (σ : St) (H : Heap) (locs : List Loc) (ls : Array Slot), m ≤ 6 → 7 ≤ m + n → Cf M M σ → Dat T σ → (∀ x, x < 6 → ∀ j, j < 16 → kpm M j x → M.testBit x = true → hold T σ0 x j → hold T σ x j) → rW wr tr_ D ad cs A s σ H locs → lv_has ls 3 [(0, .ref (ad 0)), (1, .int (nI m))] → W p l e { frames := 3, cells := 0, slots := 0, locals := 71 } s mi args below meth c H locs 0 0 (MQ below (va_Qv ((drP M T) σ0) (rB wr tr_ D ad cs A) A) args s 0 0 A) (F0 mi 2 ls []) := by
    intro n
    induction n with
    | zero =>
      intro m σ H locs ls hm hn hcf2 hdat2 hkeep hw hl
      omega
    | succ n ih2 =>
      intro m σ H locs ls hm hn hcf2 hdat2 hkeep hw hl
      refine lv_iload_n hx hb d_r_dropOthers_2 rfl (lv_at hl 1 rfl) ?_
      refine lv_bipush (v := nI 6) hx hb d_r_dropOthers_3 (by decide) ?_
      refine ln_icmp_ge (tgt := 51) hx hb d_r_dropOthers_5 (by decide) (⟨by omega, by omega⟩) (fun c_5 => ?_) (fun c_5 => ?_)
      · refine lv_iconst (v := nI 0) hx hb d_r_dropOthers_51 (by decide) ?_
        refine lv_istore_n (lv' := [(1, .int (nI 0)), (0, .ref (ad 0))]) hx hb d_r_dropOthers_52 rfl hl (by decide) rfl (fun ls hl => ?_)
        have L53 : ∀ (n : Nat) (i : Nat) (σ : St) (H : Heap) (locs : List Loc) (ls : Array Slot), i ≤ 576 → 577 ≤ i + n → Cf M M σ → Dat T σ → (∀ x, x < 6 → ∀ j, j < 16 → kpm M j x → M.testBit x = true → hold T σ0 x j → hold T σ x j) → rW wr tr_ D ad cs A s σ H locs → lv_has ls 3 [(0, .ref (ad 0)), (1, .int (nI i))] → W p l e { frames := 3, cells := 0, slots := 0, locals := 71 } s mi args below meth c H locs 0 0 (MQ below (va_Qv ((drP M T) σ0) (rB wr tr_ D ad cs A) A) args s 0 0 A) (F0 mi 53 ls []) := by
          intro n
          induction n with
          | zero =>
            intro i σ H locs ls hi hn hcf2 hdat2 hkeep hw hl
            omega
          | succ n ih53 =>
            intro i σ H locs ls hi hn hcf2 hdat2 hkeep hw hl
            refine lv_iload_n hx hb d_r_dropOthers_53 rfl (lv_at hl 1 rfl) ?_
            refine lv_sipush (v := nI 576) hx hb d_r_dropOthers_54 (by decide) ?_
            refine ln_icmp_ge (tgt := 73) hx hb d_r_dropOthers_57 (by decide) (⟨by omega, by omega⟩) (fun c_57 => ?_) (fun c_57 => ?_)
            · exact r_vret S hr hlk hw d_r_dropOthers_73 (⟨hcf2, hdat2, hkeep⟩)
            · refine lv_aload_n hx hb d_r_dropOthers_60 rfl (lv_at hl 0 rfl) ?_
              refine rg_8 S hw d_r_dropOthers_61 ?_
              refine lv_iload_n hx hb d_r_dropOthers_64 rfl (lv_at hl 1 rfl) ?_
              refine lv_iconst (v := nI 0) hx hb d_r_dropOthers_65 (by decide) ?_
              refine rs_8 S hw d_r_dropOthers_66 (by omega) (fun H locs hw => ?_)
              refine ln_iinc (lv' := [(1, .int (nI (i + 1))), (0, .ref (ad 0))]) hx hb d_r_dropOthers_67 hl (k := 1) rfl rfl (by decide) rfl (fun ls hl => ?_)
              refine lv_goto (tgt := 53) hx hb d_r_dropOthers_70 (by decide) ?_
              exact ih53 (i + 1) (up2 σ 8 i (nI 0)) _ _ _ (by omega) (by omega) (hcf2.congr rfl rfl rfl rfl rfl rfl) (hz_dat hdat2 _) hkeep hw (lv_sub hl [1, 0] rfl)
        exact L53 577 (0) σ _ _ _ (by omega) (by omega) hcf2 hdat2 hkeep hw (lv_sub hl [1, 0] rfl)
      · refine lv_iconst (v := nI 0) hx hb d_r_dropOthers_8 (by decide) ?_
        refine lv_istore_n (lv' := [(2, .int (nI 0)), (0, .ref (ad 0)), (1, .int (nI m))]) hx hb d_r_dropOthers_9 rfl hl (by decide) rfl (fun ls hl => ?_)
        have L10 : ∀ (n : Nat) (k : Nat) (σ : St) (H : Heap) (locs : List Loc) (ls : Array Slot), k ≤ 16 → 17 ≤ k + n → Cf M M σ → Dat T σ → (∀ x, x < 6 → ∀ j, j < 16 → kpm M j x → M.testBit x = true → hold T σ0 x j → hold T σ x j) → rW wr tr_ D ad cs A s σ H locs → lv_has ls 3 [(0, .ref (ad 0)), (1, .int (nI m)), (2, .int (nI k))] → W p l e { frames := 3, cells := 0, slots := 0, locals := 71 } s mi args below meth c H locs 0 0 (MQ below (va_Qv ((drP M T) σ0) (rB wr tr_ D ad cs A) A) args s 0 0 A) (F0 mi 10 ls []) := by
          intro n
          induction n with
          | zero =>
            intro k σ H locs ls hk hn hcf2 hdat2 hkeep hw hl
            omega
          | succ n ih10 =>
            intro k σ H locs ls hk hn hcf2 hdat2 hkeep hw hl
            refine lv_iload_n hx hb d_r_dropOthers_10 rfl (lv_at hl 2 rfl) ?_
            refine lv_bipush (v := nI 16) hx hb d_r_dropOthers_11 (by decide) ?_
            refine ln_icmp_ge (tgt := 45) hx hb d_r_dropOthers_13 (by decide) (⟨by omega, by omega⟩) (fun c_13 => ?_) (fun c_13 => ?_)
            · refine ln_iinc (lv' := [(1, .int (nI (m + 1))), (0, .ref (ad 0)), (2, .int (nI k))]) hx hb d_r_dropOthers_45 hl (k := 1) rfl rfl (by decide) rfl (fun ls hl => ?_)
              refine lv_goto (tgt := 2) hx hb d_r_dropOthers_48 (by decide) ?_
              exact ih2 (m + 1) σ _ _ _ (by omega) (by omega) hcf2 hdat2 hkeep hw (lv_sub hl [1, 0] rfl)
            · refine lv_aload_n hx hb d_r_dropOthers_16 rfl (lv_at hl 0 rfl) ?_
              refine lv_iload_n hx hb d_r_dropOthers_17 rfl (lv_at hl 1 rfl) ?_
              refine r_calli (rest := []) S hw k_r_r_isMember (c_r_isMember l (nI m) M (hM.1)) (hcf2.m) rfl rfl ⟨by decide, by decide⟩ rfl hl.1 rfl (Nat.le_of_ble_eq_true rfl) ⟨Nat.le_refl _, Nat.le_refl _⟩ d_r_dropOthers_18 (fun r1 σ1 H locs hq1 hw => ?_)
              obtain ⟨es1, er1⟩ := hq1
              rw [es1] at hw
              refine ln_top (er1.trans (bI_congr (mem_nI (by omega)))) ?_
              refine lb_if_eq (tgt := 33) hx hb d_r_dropOthers_21 (by decide) (fun c_21 => ?_) (fun c_21 => ?_)
              · refine lv_aload_n hx hb d_r_dropOthers_33 rfl (lv_at hl 0 rfl) ?_
                refine lv_iload_n hx hb d_r_dropOthers_34 rfl (lv_at hl 1 rfl) ?_
                refine lv_iload_n hx hb d_r_dropOthers_35 rfl (lv_at hl 2 rfl) ?_
                refine r_callv (rest := []) S hw k_r_r_erase (c_r_erase l m k (by omega) (by omega)) (trivial) rfl rfl ⟨by decide, by decide⟩ rfl hl.1 rfl (Nat.le_of_ble_eq_true rfl) ⟨Nat.le_refl _, Nat.le_refl _⟩ d_r_dropOthers_36 (fun σ2 H locs hq2 hw => ?_)
                rw [hq2] at hw
                refine ln_iinc (lv' := [(2, .int (nI (k + 1))), (0, .ref (ad 0)), (1, .int (nI m))]) hx hb d_r_dropOthers_39 hl (k := 2) rfl rfl (by decide) rfl (fun ls hl => ?_)
                refine lv_goto (tgt := 10) hx hb d_r_dropOthers_42 (by decide) ?_
                exact ih10 (k + 1) (erF σ m k) _ _ _ (by omega) (by omega) (hcf2.er _ _) (erF_dat hdat2 (by omega) (by omega)) (fun x hx j hj k1 k2 z => er_hold (hkeep x hx j hj k1 k2 z) (by omega) hj (fun w => c_21 (by rw [← w.1]; exact k2))) hw (lv_sub hl [1, 2, 0] rfl)
              · refine lv_aload_n hx hb d_r_dropOthers_24 rfl (lv_at hl 0 rfl) ?_
                refine lv_iload_n hx hb d_r_dropOthers_25 rfl (lv_at hl 1 rfl) ?_
                refine lv_iload_n hx hb d_r_dropOthers_26 rfl (lv_at hl 2 rfl) ?_
                refine r_calli (rest := []) S hw k_r_r_keeps (c_r_keeps l m k M (by omega) hM) (hcf2.lay) rfl rfl ⟨by decide, by decide⟩ rfl hl.1 rfl (Nat.le_of_ble_eq_true rfl) ⟨Nat.le_refl _, Nat.le_refl _⟩ d_r_dropOthers_27 (fun r3 σ3 H locs hq3 hw => ?_)
                obtain ⟨er3, hf3⟩ := hq3
                have kcf := hcf2.fk hf3
                have kdat := hdat2.fk hf3
                have kmo := Mono.of5 (T := T) (fk_g hf3 (show 5 ≠ 11 by decide))
                refine ln_top er3 ?_
                refine lb_if_ne (tgt := 39) hx hb d_r_dropOthers_30 (by decide) (fun c_30 => ?_) (fun c_30 => ?_)
                · refine ln_iinc (lv' := [(2, .int (nI (k + 1))), (0, .ref (ad 0)), (1, .int (nI m))]) hx hb d_r_dropOthers_39 hl (k := 2) rfl rfl (by decide) rfl (fun ls hl => ?_)
                  refine lv_goto (tgt := 10) hx hb d_r_dropOthers_42 (by decide) ?_
                  exact ih10 (k + 1) σ3 _ _ _ (by omega) (by omega) kcf kdat (fun x hx j hj k1 k2 z => kmo x hx j hj (hkeep x hx j hj k1 k2 z)) hw (lv_sub hl [1, 2, 0] rfl)
                · refine lv_aload_n hx hb d_r_dropOthers_33 rfl (lv_at hl 0 rfl) ?_
                  refine lv_iload_n hx hb d_r_dropOthers_34 rfl (lv_at hl 1 rfl) ?_
                  refine lv_iload_n hx hb d_r_dropOthers_35 rfl (lv_at hl 2 rfl) ?_
                  refine r_callv (rest := []) S hw k_r_r_erase (c_r_erase l m k (by omega) (by omega)) (trivial) rfl rfl ⟨by decide, by decide⟩ rfl hl.1 rfl (Nat.le_of_ble_eq_true rfl) ⟨Nat.le_refl _, Nat.le_refl _⟩ d_r_dropOthers_36 (fun σ4 H locs hq4 hw => ?_)
                  rw [hq4] at hw
                  refine ln_iinc (lv' := [(2, .int (nI (k + 1))), (0, .ref (ad 0)), (1, .int (nI m))]) hx hb d_r_dropOthers_39 hl (k := 2) rfl rfl (by decide) rfl (fun ls hl => ?_)
                  refine lv_goto (tgt := 10) hx hb d_r_dropOthers_42 (by decide) ?_
                  exact ih10 (k + 1) (erF σ3 m k) _ _ _ (by omega) (by omega) (kcf.er _ _) (erF_dat kdat (by omega) (by omega)) (fun x hx j hj k1 k2 z => er_hold (kmo x hx j hj (hkeep x hx j hj k1 k2 z)) (by omega) hj (fun w => c_30 (by rw [← w.1, ← w.2]; exact k1))) hw (lv_sub hl [1, 2, 0] rfl)
        exact L10 17 (0) σ _ _ _ (by omega) (by omega) hcf2 hdat2 hkeep hw (lv_sub hl [1, 2, 0] rfl)
  exact L2 7 (0) σ0 _ _ _ (by omega) (by omega) hcf hdat (fun _ _ _ _ _ _ h => h) hw (lv_sub hl [1, 0] rfl)

set_option maxHeartbeats 4000000 in
set_option maxRecDepth 100000 in
theorem c_r_moveTo (l : Launch) (N : Nat) (M : Nat) (T : Tr) (hN : okM N) (hM : okM M) : rCv wr tr_ l y_r_moveTo w_r_moveTo 4 93 [.int (nI N)] (Inv M M T) (fun σ σ' => Inv N N T σ') := by
  refine rCv.mk (b := b_r_moveTo) (nL := 6) R_rr (by decide) rfl (Nat.le_of_ble_eq_true rfl) ?_
  intro D ad cs σ0 hinv p e s mi args below meth c A S hr hlk hw ls hl
  have hx := S.1
  have hb := S.2.1
  have hts := S.2.2.2.2
  have hown := S.2.2.2.1
  have hl : lv_has ls 6 [(0, .ref (ad 0)), (1, .int (nI N))] := hl
  have hN6 := hN.1
  have hM6 := hM.1
  refine lv_aload_n hx hb d_r_moveTo_0 rfl (lv_at hl 0 rfl) ?_
  refine rg_0 S hw d_r_moveTo_1 ?_
  refine ln_top (hinv.1.m) ?_
  refine lv_istore_n (lv' := [(2, .int (nI M)), (0, .ref (ad 0)), (1, .int (nI N))]) hx hb d_r_moveTo_4 rfl hl (by decide) rfl (fun ls hl => ?_)
  refine lv_iconst (v := nI 0) hx hb d_r_moveTo_5 (by decide) ?_
  refine lv_istore_n (lv' := [(3, .int (nI 0)), (2, .int (nI M)), (0, .ref (ad 0)), (1, .int (nI N))]) hx hb d_r_moveTo_6 rfl hl (by decide) rfl (fun ls hl => ?_)
  have L7 : ∀ (n : Nat) (k : Nat) (ll : Nat) (σ : St) (H : Heap) (locs : List Loc) (ls : Array Slot), k ≤ 16 → 17 ≤ k + n → ll ≤ 30 → σ 0 20 = nI ll → Dat T σ → (∀ j, j < k → all3 N T σ j) → (∀ j, k ≤ j → j < 16 → quor M T σ j) → (0 < k → Cf N N σ) → rW wr tr_ D ad cs A s σ H locs → lv_has ls 6 [(0, .ref (ad 0)), (1, .int (nI N)), (2, .int (nI M)), (3, .int (nI k))] → W p l e { frames := 4, cells := 0, slots := 0, locals := 93 } s mi args below meth c H locs 0 0 (MQ below (va_Qv ((fun σ σ' => Inv N N T σ') σ0) (rB wr tr_ D ad cs A) A) args s 0 0 A) (F0 mi 7 ls []) := by
    intro n
    induction n with
    | zero =>
      intro k ll σ H locs ls hk hn hll h20 hdat2 hnew hold2 hcf2 hw hl
      omega
    | succ n ih7 =>
      intro k ll σ H locs ls hk hn hll h20 hdat2 hnew hold2 hcf2 hw hl
      refine lv_iload_n hx hb d_r_moveTo_7 rfl (lv_at hl 3 rfl) ?_
      refine lv_bipush (v := nI 16) hx hb d_r_moveTo_8 (by decide) ?_
      refine ln_icmp_ge (tgt := 86) hx hb d_r_moveTo_10 (by decide) (⟨by omega, by omega⟩) (fun c_10 => ?_) (fun c_10 => ?_)
      · refine lv_aload_n hx hb d_r_moveTo_86 rfl (lv_at hl 0 rfl) ?_
        refine r_callv (rest := []) S hw k_r_r_dropOthers (c_r_dropOthers l N T hN) (⟨hcf2 (by omega), hdat2⟩) rfl rfl ⟨by decide, by decide⟩ rfl hl.1 rfl (Nat.le_of_ble_eq_true rfl) ⟨Nat.le_refl _, Nat.le_refl _⟩ d_r_moveTo_87 (fun σ1 H locs hq1 hw => ?_)
        exact r_vret S hr hlk hw d_r_moveTo_90 (⟨hq1.1, hq1.2.1, fun j hj => all3.q (fun i hi => hq1.2.2 _ (kp_lt hN j hi).1 j hj (kpm_kp N j hi) (kp_lt hN j hi).2 (hnew j (by omega) i hi))⟩)
      · refine lv_aload_n hx hb d_r_moveTo_13 rfl (lv_at hl 0 rfl) ?_
        refine lv_iload_n hx hb d_r_moveTo_14 rfl (lv_at hl 2 rfl) ?_
        refine rp_0 S hw d_r_moveTo_15 (fun H locs hw => ?_)
        refine lv_aload_n hx hb d_r_moveTo_18 rfl (lv_at hl 0 rfl) ?_
        refine lv_iload_n hx hb d_r_moveTo_19 rfl (lv_at hl 2 rfl) ?_
        refine rp_1 S hw d_r_moveTo_20 (fun H locs hw => ?_)
        refine lv_aload_n hx hb d_r_moveTo_23 rfl (lv_at hl 0 rfl) ?_
        refine r_callv (rest := []) S hw k_r_r_layRing (c_r_layRing l M (hM.1)) (rfl) rfl rfl ⟨by decide, by decide⟩ rfl hl.1 rfl (Nat.le_of_ble_eq_true rfl) ⟨Nat.le_refl _, Nat.le_refl _⟩ d_r_moveTo_24 (fun σ2 H locs hq2 hw => ?_)
        obtain ⟨hL2, hLf2⟩ := hq2
        have hcA := lr_cf hll h20 hL2 hLf2
        obtain ⟨hdA, hmA⟩ := lr_dat hdat2 hLf2
        refine lv_aload_n hx hb d_r_moveTo_27 rfl (lv_at hl 0 rfl) ?_
        refine r_calli (rest := []) S hw k_r_r_leader (c_r_leader l M hM.1 (lead hM (okW_self hM))) (hcA.2.1) rfl rfl ⟨by decide, by decide⟩ rfl hl.1 rfl (Nat.le_of_ble_eq_true rfl) ⟨Nat.le_refl _, Nat.le_refl _⟩ d_r_moveTo_28 (fun r3 σ3 H locs hq3 hw => ?_)
        obtain ⟨lj3, hlj3, er3, hlb3, es3⟩ := hq3
        rw [es3] at hw
        refine ln_top er3 ?_
        refine lv_istore (lv' := [(4, .int (nI lj3)), (0, .ref (ad 0)), (1, .int (nI N)), (2, .int (nI M)), (3, .int (nI k))]) hx hb d_r_moveTo_31 hl (by decide) rfl (fun ls hl => ?_)
        refine lv_aload_n hx hb d_r_moveTo_33 rfl (lv_at hl 1 rfl) ?_
        refine lv_iload hx hb d_r_moveTo_34 (lv_at hl 0 rfl) ?_
        refine lv_iload_n hx hb d_r_moveTo_36 rfl (lv_at hl 4 rfl) ?_
        refine r_callv (rest := []) S hw k_r_r_readNewest (c_r_readNewest l lj3 k M M T hM (okW_self hM) (by omega)) (⟨⟨ll, hll, hcA⟩, hdA, (hold2 k (Nat.le_refl _) (by omega)).mono hM (by omega) hmA⟩) rfl rfl ⟨by decide, by decide⟩ rfl hl.1 rfl (Nat.le_of_ble_eq_true rfl) ⟨Nat.le_refl _, Nat.le_refl _⟩ d_r_moveTo_37 (fun σ4 H locs hq4 hw => ?_)
        obtain ⟨⟨lr, hlr, hcr⟩, hdr, hmr, hnr, hgr, -⟩ := hq4
        refine lv_aload_n hx hb d_r_moveTo_40 rfl (lv_at hl 1 rfl) ?_
        refine lv_iload_n hx hb d_r_moveTo_41 rfl (lv_at hl 2 rfl) ?_
        refine rp_0 S hw d_r_moveTo_42 (fun H locs hw => ?_)
        refine lv_aload_n hx hb d_r_moveTo_45 rfl (lv_at hl 1 rfl) ?_
        refine lv_iload_n hx hb d_r_moveTo_46 rfl (lv_at hl 2 rfl) ?_
        refine rp_1 S hw d_r_moveTo_47 (fun H locs hw => ?_)
        refine lv_aload_n hx hb d_r_moveTo_50 rfl (lv_at hl 1 rfl) ?_
        refine r_callv (rest := []) S hw k_r_r_layRing (c_r_layRing l N (hN.1)) (rfl) rfl rfl ⟨by decide, by decide⟩ rfl hl.1 rfl (Nat.le_of_ble_eq_true rfl) ⟨Nat.le_refl _, Nat.le_refl _⟩ d_r_moveTo_51 (fun σ5 H locs hq5 hw => ?_)
        obtain ⟨hL5, hLf5⟩ := hq5
        have hcB := lr_cf hlr hcr.2.2.2 hL5 hLf5
        obtain ⟨hdB, hmB⟩ := lr_dat hdr hLf5
        have hnB := (lr_f hLf5 (show 13 ≠ 0 by decide) (by decide) (by decide)).trans hnr
        have hgB := hgr.cg (lr_f hLf5 (show 13 ≠ 0 by decide) (by decide) (by decide)) (lr_f hLf5 (show 14 ≠ 0 by decide) (by decide) (by decide)) (lr_f hLf5 (show 15 ≠ 0 by decide) (by decide) (by decide))
        refine lv_aload_n hx hb d_r_moveTo_54 rfl (lv_at hl 1 rfl) ?_
        refine lv_iload_n hx hb d_r_moveTo_55 rfl (lv_at hl 4 rfl) ?_
        refine r_callv (rest := []) S hw k_r_r_findKeepers (c_r_findKeepers l k N hN) (hcB.2.2.1) rfl rfl ⟨by decide, by decide⟩ rfl hl.1 rfl (Nat.le_of_ble_eq_true rfl) ⟨Nat.le_refl _, Nat.le_refl _⟩ d_r_moveTo_56 (fun σ6 H locs hq6 hw => ?_)
        obtain ⟨hkk, hfk⟩ := hq6
        obtain ⟨lx, hlx, hcx⟩ : ∃ z, z ≤ 30 ∧ CfL N N z σ6 := ⟨lr, hlr, hcB.fk hfk⟩
        have hdx := hdB.fk hfk
        have hmx : Mono T σ σ6 := ((hmA.tr hmr).tr hmB).tr (Mono.of5 (fk_g hfk (by decide)))
        have hnx := (hfk 0 13 (by decide)).trans hnB
        have hgx := hgB.cg (hfk 0 13 (by decide)) (hfk 0 14 (by decide)) (hfk 0 15 (by decide))
        refine lv_aload_n hx hb d_r_moveTo_59 rfl (lv_at hl 1 rfl) ?_
        refine rg_13 S hw d_r_moveTo_60 ?_
        refine lv_if_le (tgt := 80) hx hb d_r_moveTo_63 (by decide) (fun c_63 => ?_) (fun c_63 => ?_)
        · refine ln_iinc (lv' := [(3, .int (nI (k + 1))), (4, .int (nI lj3)), (0, .ref (ad 0)), (1, .int (nI N)), (2, .int (nI M))]) hx hb d_r_moveTo_80 hl (k := 4) rfl rfl (by decide) rfl (fun ls hl => ?_)
          refine lv_goto (tgt := 7) hx hb d_r_moveTo_83 (by decide) ?_
          exact ih7 (k + 1) (lx) σ6 _ _ _ (by omega) (by omega) hlx hcx.2.2.2 hdx (fun j hj => by
                by_cases e : j = k
                · subst e; exact zero_all hN (by omega) hdx (by rw [← hnx]; exact c_63)
                · exact (hnew j (by omega)).mono hN (by omega) hmx) (fun j h1 h2 => (hold2 j (by omega) h2).mono hM h2 hmx) (fun _ => ⟨lx, hlx, hcx⟩) hw (lv_sub hl [2, 3, 4, 0] rfl)
        · refine lv_aload_n hx hb d_r_moveTo_66 rfl (lv_at hl 1 rfl) ?_
          refine r_calli (rest := []) S hw k_r_r_leader (c_r_leader l N hN.1 (lead hN (okW_self hN))) (hcx.2.1) rfl rfl ⟨by decide, by decide⟩ rfl hl.1 rfl (Nat.le_of_ble_eq_true rfl) ⟨Nat.le_refl _, Nat.le_refl _⟩ d_r_moveTo_67 (fun r7 σ7 H locs hq7 hw => ?_)
          obtain ⟨lj7, hlj7, er7, hlb7, es7⟩ := hq7
          rw [es7] at hw
          refine ln_top er7 ?_
          refine lv_istore (lv' := [(5, .int (nI lj7)), (4, .int (nI lj3)), (0, .ref (ad 0)), (1, .int (nI N)), (2, .int (nI M)), (3, .int (nI k))]) hx hb d_r_moveTo_70 hl (by decide) rfl (fun ls hl => ?_)
          refine lv_aload_n hx hb d_r_moveTo_72 rfl (lv_at hl 2 rfl) ?_
          refine lv_iload hx hb d_r_moveTo_73 (lv_at hl 0 rfl) ?_
          refine lv_iload_n hx hb d_r_moveTo_75 rfl (lv_at hl 5 rfl) ?_
          refine lv_iconst (v := nI 3) hx hb d_r_moveTo_76 (by decide) ?_
          refine r_callv (rest := []) S hw k_r_r_writeNewest (c_r_writeNewest l lj7 k 3 N N T hN (okW_self hN) (by omega) hlj7 (fun a ha h => cb8e a ha (h 0 (by decide) (kp_lt hN k (by decide)).2) (h 1 (by decide) (kp_lt hN k (by decide)).2) (h 2 (by decide) (kp_lt hN k (by decide)).2)) (by decide)) (⟨⟨lx, hlx, hcx⟩, hdx, hnx, hgx, hkk⟩) rfl rfl ⟨by decide, by decide⟩ rfl hl.1 rfl (Nat.le_of_ble_eq_true rfl) ⟨Nat.le_refl _, Nat.le_refl _⟩ d_r_moveTo_77 (fun σ8 H locs hq8 hw => ?_)
          refine ln_iinc (lv' := [(3, .int (nI (k + 1))), (5, .int (nI lj7)), (4, .int (nI lj3)), (0, .ref (ad 0)), (1, .int (nI N)), (2, .int (nI M))]) hx hb d_r_moveTo_80 hl (k := 5) rfl rfl (by decide) rfl (fun ls hl => ?_)
          refine lv_goto (tgt := 7) hx hb d_r_moveTo_83 (by decide) ?_
          obtain ⟨⟨l9, hl9, hc9⟩, hd9, hm9, a9, ha9, hE9, hh9⟩ := hq8
          have hmz := hmx.tr hm9
          exact ih7 (k + 1) (l9) σ8 _ _ _ (by omega) (by omega) hl9 hc9.2.2.2 hd9 (fun j hj => by
                by_cases e : j = k
                · subst e; exact fun i hi => hh9 i hi (cb8c a9 ha9 hE9 i hi)
                · exact (hnew j (by omega)).mono hN (by omega) hmz) (fun j h1 h2 => (hold2 j (by omega) h2).mono hM h2 hmz) (fun _ => ⟨l9, hl9, hc9⟩) hw (lv_sub hl [3, 4, 5, 0] rfl)
  obtain ⟨ll0, hll0, hc0⟩ := hinv.1
  exact L7 17 (0) (ll0) σ0 _ _ _ (by omega) (by omega) hll0 hc0.2.2.2 hinv.2.1 (fun j h => absurd h (Nat.not_lt_zero j)) (fun j _ hj => hinv.2.2 j hj) (fun h => absurd h (Nat.lt_irrefl 0)) hw (lv_sub hl [2, 3, 1, 0] rfl)

set_option maxHeartbeats 4000000 in
set_option maxRecDepth 100000 in
theorem c_r_join (l : Launch) (m : Int32) (M : Nat) (U : Nat) (T : Tr) (hM : okM M) (hU : okW M U) : rCi wr tr_ l y_r_join w_r_join 5 118 [.int (m)] (Inv M U T) (joP M U T m) := by
  refine rCi.mk (b := b_r_join) (nL := 2) (rt := .int) R_rr (by decide) rfl (Nat.le_of_ble_eq_true rfl) ?_
  intro D ad cs σ0 hinv p e s mi args below meth c A S hr hlk hw ls hl
  have hx := S.1
  have hb := S.2.1
  have hts := S.2.2.2.2
  have hown := S.2.2.2.1
  have hl : lv_has ls 2 [(0, .ref (ad 0)), (1, .int (m))] := hl
  have hM6 := hM.1
  have hU6 := hU.1
  refine lv_iload_n hx hb d_r_join_0 rfl (lv_at hl 1 rfl) ?_
  refine r_calls (rest := []) S k_r_r_isMachine (c_r_isMachine l (m)) ⟨by decide, by decide⟩ rfl hl.1 rfl (Nat.le_of_ble_eq_true rfl) ⟨Nat.le_refl _, Nat.le_refl _⟩ d_r_join_1 ?_
  refine lb_if_ne (tgt := 10) hx hb d_r_join_4 (by decide) (fun c_4 => ?_) (fun c_4 => ?_)
  · refine lv_aload_n hx hb d_r_join_10 rfl (lv_at hl 0 rfl) ?_
    refine lv_iload_n hx hb d_r_join_11 rfl (lv_at hl 1 rfl) ?_
    refine r_calli (rest := []) S hw k_r_r_isMember (c_r_isMember l (m) M (hM.1)) (hinv.1.m) rfl rfl ⟨by decide, by decide⟩ rfl hl.1 rfl (Nat.le_of_ble_eq_true rfl) ⟨Nat.le_refl _, Nat.le_refl _⟩ d_r_join_12 (fun r1 σ1 H locs hq1 hw => ?_)
    obtain ⟨es1, er1⟩ := hq1
    rw [es1] at hw
    refine ln_top (er1) ?_
    refine lb_if_ne (tgt := 29) hx hb d_r_join_15 (by decide) (fun c_15 => ?_) (fun c_15 => ?_)
    · refine lv_ldc (v := (-300000)) hx hb hown (hts _ q_const_r_137) d_r_join_29 ?_
      exact r_iret S hr hlk hw d_r_join_31 (Or.inr (Or.inl ⟨c_4, fun h => by first | exact h.1 c_15 | exact c_26 h.2, rfl, rfl⟩))
    · refine lv_aload_n hx hb d_r_join_18 rfl (lv_at hl 0 rfl) ?_
      refine rg_1 S hw d_r_join_19 ?_
      refine ln_top (hinv.1.u) ?_
      refine lv_aload_n hx hb d_r_join_22 rfl (lv_at hl 0 rfl) ?_
      refine rg_0 S hw d_r_join_23 ?_
      refine ln_top (hinv.1.m) ?_
      refine ln_icmp_eq (tgt := 32) hx hb d_r_join_26 (by decide) (⟨by omega, by omega⟩) (fun c_26 => ?_) (fun c_26 => ?_)
      · obtain ⟨mj, hmj, emj⟩ := inM_of c_4 (by decide)
        subst emj
        have hbM : ¬ M.testBit mj = true := fun h => c_15 ((mem_nI hmj).mpr h)
        have ho6 := or6 M hM.1 mj hmj
        refine lv_aload_n hx hb d_r_join_32 rfl (lv_at hl 0 rfl) ?_
        refine lv_aload_n hx hb d_r_join_33 rfl (lv_at hl 0 rfl) ?_
        refine rg_0 S hw d_r_join_34 ?_
        refine ln_top (hinv.1.m) ?_
        refine lv_iconst (v := nI 1) hx hb d_r_join_37 (by decide) ?_
        refine lv_iload_n hx hb d_r_join_38 rfl (lv_at hl 1 rfl) ?_
        refine lv_ishl hx hb d_r_join_39 ?_
        refine lv_ior hx hb d_r_join_40 ?_
        refine ln_top ho6.1 ?_
        refine r_callv (rest := []) S hw k_r_r_moveTo (c_r_moveTo l (M ||| 2 ^ mj) M T ⟨ho6.2.1, Nat.le_trans hM.2 (or6c M hM.1 mj hmj)⟩ hM) ((by rw [c_26] at hinv; exact hinv)) rfl rfl ⟨by decide, by decide⟩ rfl hl.1 rfl (Nat.le_of_ble_eq_true rfl) ⟨Nat.le_refl _, Nat.le_refl _⟩ d_r_join_41 (fun σ2 H locs hq2 hw => ?_)
        refine lv_aload_n hx hb d_r_join_44 rfl (lv_at hl 0 rfl) ?_
        refine rg_0 S hw d_r_join_45 ?_
        refine ln_top (hq2.1.m) ?_
        refine r_calls (rest := []) S k_r_r_ones (c_r_ones l (M ||| 2 ^ mj) (ho6.2.1)) ⟨by decide, by decide⟩ rfl hl.1 rfl (Nat.le_of_ble_eq_true rfl) ⟨Nat.le_refl _, Nat.le_refl _⟩ d_r_join_48 ?_
        exact r_iret S hr hlk hw d_r_join_51 (Or.inr (Or.inr ⟨mj, hmj, rfl, hbM, c_26, rfl, hq2⟩))
      · refine lv_ldc (v := (-300000)) hx hb hown (hts _ q_const_r_137) d_r_join_29 ?_
        exact r_iret S hr hlk hw d_r_join_31 (Or.inr (Or.inl ⟨c_4, fun h => by first | exact h.1 c_15 | exact c_26 h.2, rfl, rfl⟩))
  · refine lv_ldc (v := (-100000)) hx hb hown (hts _ q_const_r_136) d_r_join_7 ?_
    exact r_iret S hr hlk hw d_r_join_9 (Or.inl ⟨c_4, rfl, rfl⟩)

set_option maxHeartbeats 4000000 in
set_option maxRecDepth 100000 in
theorem c_r_leave (l : Launch) (m : Int32) (M : Nat) (U : Nat) (T : Tr) (hM : okM M) (hU : okW M U) : rCi wr tr_ l y_r_leave w_r_leave 5 118 [.int (m)] (Inv M U T) (leP M U T m) := by
  refine rCi.mk (b := b_r_leave) (nL := 2) (rt := .int) R_rr (by decide) rfl (Nat.le_of_ble_eq_true rfl) ?_
  intro D ad cs σ0 hinv p e s mi args below meth c A S hr hlk hw ls hl
  have hx := S.1
  have hb := S.2.1
  have hts := S.2.2.2.2
  have hown := S.2.2.2.1
  have hl : lv_has ls 2 [(0, .ref (ad 0)), (1, .int (m))] := hl
  have hM6 := hM.1
  have hU6 := hU.1
  have hcb := cb_le M 6
  refine lv_iload_n hx hb d_r_leave_0 rfl (lv_at hl 1 rfl) ?_
  refine r_calls (rest := []) S k_r_r_isMachine (c_r_isMachine l (m)) ⟨by decide, by decide⟩ rfl hl.1 rfl (Nat.le_of_ble_eq_true rfl) ⟨Nat.le_refl _, Nat.le_refl _⟩ d_r_leave_1 ?_
  refine lb_if_ne (tgt := 10) hx hb d_r_leave_4 (by decide) (fun c_4 => ?_) (fun c_4 => ?_)
  · refine lv_aload_n hx hb d_r_leave_10 rfl (lv_at hl 0 rfl) ?_
    refine lv_iload_n hx hb d_r_leave_11 rfl (lv_at hl 1 rfl) ?_
    refine r_calli (rest := []) S hw k_r_r_isMember (c_r_isMember l (m) M (hM.1)) (hinv.1.m) rfl rfl ⟨by decide, by decide⟩ rfl hl.1 rfl (Nat.le_of_ble_eq_true rfl) ⟨Nat.le_refl _, Nat.le_refl _⟩ d_r_leave_12 (fun r1 σ1 H locs hq1 hw => ?_)
    obtain ⟨es1, er1⟩ := hq1
    rw [es1] at hw
    refine ln_top (er1) ?_
    refine lb_if_eq (tgt := 40) hx hb d_r_leave_15 (by decide) (fun c_15 => ?_) (fun c_15 => ?_)
    · refine lv_ldc (v := (-300000)) hx hb hown (hts _ q_const_r_137) d_r_leave_40 ?_
      exact r_iret S hr hlk hw d_r_leave_42 (Or.inr (Or.inl ⟨c_4, fun h => by first | exact c_15 h.1 | exact h.2.1 c_26 | exact c_37 h.2.2, rfl, rfl⟩))
    · refine lv_aload_n hx hb d_r_leave_18 rfl (lv_at hl 0 rfl) ?_
      refine rg_0 S hw d_r_leave_19 ?_
      refine ln_top (hinv.1.m) ?_
      refine r_calls (rest := []) S k_r_r_ones (c_r_ones l M (hM.1)) ⟨by decide, by decide⟩ rfl hl.1 rfl (Nat.le_of_ble_eq_true rfl) ⟨Nat.le_refl _, Nat.le_refl _⟩ d_r_leave_22 ?_
      refine lv_iconst (v := nI 3) hx hb d_r_leave_25 (by decide) ?_
      refine ln_icmp_eq (tgt := 40) hx hb d_r_leave_26 (by decide) (⟨by omega, by omega⟩) (fun c_26 => ?_) (fun c_26 => ?_)
      · refine lv_ldc (v := (-300000)) hx hb hown (hts _ q_const_r_137) d_r_leave_40 ?_
        exact r_iret S hr hlk hw d_r_leave_42 (Or.inr (Or.inl ⟨c_4, fun h => by first | exact c_15 h.1 | exact h.2.1 c_26 | exact c_37 h.2.2, rfl, rfl⟩))
      · refine lv_aload_n hx hb d_r_leave_29 rfl (lv_at hl 0 rfl) ?_
        refine rg_1 S hw d_r_leave_30 ?_
        refine ln_top (hinv.1.u) ?_
        refine lv_aload_n hx hb d_r_leave_33 rfl (lv_at hl 0 rfl) ?_
        refine rg_0 S hw d_r_leave_34 ?_
        refine ln_top (hinv.1.m) ?_
        refine ln_icmp_eq (tgt := 43) hx hb d_r_leave_37 (by decide) (⟨by omega, by omega⟩) (fun c_37 => ?_) (fun c_37 => ?_)
        · obtain ⟨mj, hmj, emj, hbM⟩ := mem_of c_15
          subst emj
          have ho6 := and6 M hM.1 mj hmj hbM
          refine lv_aload_n hx hb d_r_leave_43 rfl (lv_at hl 0 rfl) ?_
          refine lv_aload_n hx hb d_r_leave_44 rfl (lv_at hl 0 rfl) ?_
          refine rg_0 S hw d_r_leave_45 ?_
          refine ln_top (hinv.1.m) ?_
          refine lv_iconst (v := nI 1) hx hb d_r_leave_48 (by decide) ?_
          refine lv_iload_n hx hb d_r_leave_49 rfl (lv_at hl 1 rfl) ?_
          refine lv_ishl hx hb d_r_leave_50 ?_
          refine lv_iconst (v := (-1)) hx hb d_r_leave_51 (by decide) ?_
          refine lv_ixor hx hb d_r_leave_52 ?_
          refine lv_iand hx hb d_r_leave_53 ?_
          refine ln_top ho6.1 ?_
          refine r_callv (rest := []) S hw k_r_r_moveTo (c_r_moveTo l (M ^^^ 2 ^ mj) M T ⟨ho6.2.1, by have := hM.2; omega⟩ hM) ((by rw [c_37] at hinv; exact hinv)) rfl rfl ⟨by decide, by decide⟩ rfl hl.1 rfl (Nat.le_of_ble_eq_true rfl) ⟨Nat.le_refl _, Nat.le_refl _⟩ d_r_leave_54 (fun σ2 H locs hq2 hw => ?_)
          refine lv_aload_n hx hb d_r_leave_57 rfl (lv_at hl 0 rfl) ?_
          refine rg_0 S hw d_r_leave_58 ?_
          refine ln_top (hq2.1.m) ?_
          refine r_calls (rest := []) S k_r_r_ones (c_r_ones l (M ^^^ 2 ^ mj) (ho6.2.1)) ⟨by decide, by decide⟩ rfl hl.1 rfl (Nat.le_of_ble_eq_true rfl) ⟨Nat.le_refl _, Nat.le_refl _⟩ d_r_leave_61 ?_
          exact r_iret S hr hlk hw d_r_leave_64 (Or.inr (Or.inr ⟨mj, hmj, rfl, hbM, c_26, c_37, rfl, hq2⟩))
        · refine lv_ldc (v := (-300000)) hx hb hown (hts _ q_const_r_137) d_r_leave_40 ?_
          exact r_iret S hr hlk hw d_r_leave_42 (Or.inr (Or.inl ⟨c_4, fun h => by first | exact c_15 h.1 | exact h.2.1 c_26 | exact c_37 h.2.2, rfl, rfl⟩))
  · refine lv_ldc (v := (-100000)) hx hb hown (hts _ q_const_r_136) d_r_leave_7 ?_
    exact r_iret S hr hlk hw d_r_leave_9 (Or.inl ⟨c_4, rfl, rfl⟩)

set_option maxHeartbeats 4000000 in
set_option maxRecDepth 100000 in
theorem c_r_lose (l : Launch) (n0 : Int32) (M : Nat) (U : Nat) (T : Tr)  : rCi wr tr_ l y_r_lose w_r_lose 0 0 [.int (n0)] (Inv M U T) (loP M U T n0) := by
  refine rCi.mk (b := b_r_lose) (nL := 2) (rt := .boolean) R_rr (by decide) rfl (Nat.le_of_ble_eq_true rfl) ?_
  intro D ad cs σ0 hinv p e s mi args below meth c A S hr hlk hw ls hl
  have hx := S.1
  have hb := S.2.1
  have hts := S.2.2.2.2
  have hown := S.2.2.2.1
  have hl : lv_has ls 2 [(0, .ref (ad 0)), (1, .int (n0))] := hl
  refine lv_iload_n hx hb d_r_lose_0 rfl (lv_at hl 1 rfl) ?_
  refine lv_if_lt (tgt := 10) hx hb d_r_lose_1 (by decide) (fun c_1 => ?_) (fun c_1 => ?_)
  · refine lv_iconst (v := nI 0) hx hb d_r_lose_10 (by decide) ?_
    exact r_zret S hr hlk hw d_r_lose_11 (isB_n0) (Or.inl ⟨fun h => by first | exact h.1 c_1 | exact c_7 h.2, rfl, rfl⟩)
  · refine lv_iload_n hx hb d_r_lose_4 rfl (lv_at hl 1 rfl) ?_
    refine lv_bipush (v := nI 30) hx hb d_r_lose_5 (by decide) ?_
    refine lv_icmp_le (tgt := 12) hx hb d_r_lose_7 (by decide) (fun c_7 => ?_) (fun c_7 => ?_)
    · refine lv_aload_n hx hb d_r_lose_12 rfl (lv_at hl 0 rfl) ?_
      refine lv_iload_n hx hb d_r_lose_13 rfl (lv_at hl 1 rfl) ?_
      refine rp_20 S hw d_r_lose_14 (fun H locs hw => ?_)
      refine lv_iconst (v := nI 1) hx hb d_r_lose_17 (by decide) ?_
      exact r_zret S hr hlk hw d_r_lose_18 (isB_n1) (Or.inr ⟨⟨c_1, c_7⟩, rfl, hinv.lose c_1 c_7⟩)
    · refine lv_iconst (v := nI 0) hx hb d_r_lose_10 (by decide) ?_
      exact r_zret S hr hlk hw d_r_lose_11 (isB_n0) (Or.inl ⟨fun h => by first | exact h.1 c_1 | exact c_7 h.2, rfl, rfl⟩)

set_option maxHeartbeats 4000000 in
set_option maxRecDepth 100000 in
theorem c_r_numberOf (l : Launch) (k : Nat) (M : Nat) (U : Nat) (T : Tr) (hM : okM M) (hU : okW M U) (hk : k < 16) : rCi wr tr_ l y_r_numberOf w_r_numberOf 3 74 [.int (nI k)] (Inv M U T) (fun σ r σ' => r = num T k ∧ Inv M U T σ') := by
  refine rCi.mk (b := b_r_numberOf) (nL := 3) (rt := .int) R_rr (by decide) rfl (Nat.le_of_ble_eq_true rfl) ?_
  intro D ad cs σ0 hinv p e s mi args below meth c A S hr hlk hw ls hl
  have hx := S.1
  have hb := S.2.1
  have hts := S.2.2.2.2
  have hown := S.2.2.2.1
  have hl : lv_has ls 3 [(0, .ref (ad 0)), (1, .int (nI k))] := hl
  refine lv_aload_n hx hb d_r_numberOf_0 rfl (lv_at hl 0 rfl) ?_
  refine r_calli (rest := []) S hw k_r_r_leader (c_r_leader l U hU.1 (lead hM hU)) (hinv.1.u) rfl rfl ⟨by decide, by decide⟩ rfl hl.1 rfl (Nat.le_of_ble_eq_true rfl) ⟨Nat.le_refl _, Nat.le_refl _⟩ d_r_numberOf_1 (fun r1 σ1 H locs hq1 hw => ?_)
  obtain ⟨lj1, hlj1, er1, hlb1, es1⟩ := hq1
  rw [es1] at hw
  refine ln_top er1 ?_
  refine lv_istore_n (lv' := [(2, .int (nI lj1)), (0, .ref (ad 0)), (1, .int (nI k))]) hx hb d_r_numberOf_4 rfl hl (by decide) rfl (fun ls hl => ?_)
  refine lv_aload_n hx hb d_r_numberOf_5 rfl (lv_at hl 1 rfl) ?_
  refine lv_iload_n hx hb d_r_numberOf_6 rfl (lv_at hl 0 rfl) ?_
  refine lv_iload_n hx hb d_r_numberOf_7 rfl (lv_at hl 2 rfl) ?_
  refine r_callv (rest := []) S hw k_r_r_readNewest (c_r_readNewest l lj1 k M U T hM hU (by omega)) (hinv.rdpre (by omega)) rfl rfl ⟨by decide, by decide⟩ rfl hl.1 rfl (Nat.le_of_ble_eq_true rfl) ⟨Nat.le_refl _, Nat.le_refl _⟩ d_r_numberOf_8 (fun σ2 H locs hq2 hw => ?_)
  have hinv2 := hinv.rd (by omega) hM hq2
  refine lv_aload_n hx hb d_r_numberOf_11 rfl (lv_at hl 1 rfl) ?_
  refine r_calli (rest := []) S hw k_r_r_readNumber (c_r_readNumber l) (trivial) rfl rfl ⟨by decide, by decide⟩ rfl hl.1 rfl (Nat.le_of_ble_eq_true rfl) ⟨Nat.le_refl _, Nat.le_refl _⟩ d_r_numberOf_12 (fun r3 σ3 H locs hq3 hw => ?_)
  obtain ⟨es3, er3⟩ := hq3
  rw [es3] at hw
  refine ln_top (er3.trans (rd_num hq2)) ?_
  exact r_iret S hr hlk hw d_r_numberOf_15 (⟨rfl, hinv2⟩)

set_option maxHeartbeats 4000000 in
set_option maxRecDepth 100000 in
theorem c_r_size (l : Launch) (M : Nat) (U : Nat) (T : Tr) (hM : okM M) (hU : okW M U) : rCi wr tr_ l y_r_size w_r_size 4 96 [] (Inv M U T) (fun σ r σ' => r = nI (szN T 16) ∧ Inv M U T σ') := by
  refine rCi.mk (b := b_r_size) (nL := 3) (rt := .int) R_rr (by decide) rfl (Nat.le_of_ble_eq_true rfl) ?_
  intro D ad cs σ0 hinv p e s mi args below meth c A S hr hlk hw ls hl
  have hx := S.1
  have hb := S.2.1
  have hts := S.2.2.2.2
  have hown := S.2.2.2.1
  have hl : lv_has ls 3 [(0, .ref (ad 0))] := hl
  refine lv_iconst (v := nI 0) hx hb d_r_size_0 (by decide) ?_
  refine lv_istore_n (lv' := [(1, .int (nI 0)), (0, .ref (ad 0))]) hx hb d_r_size_1 rfl hl (by decide) rfl (fun ls hl => ?_)
  refine lv_iconst (v := nI 0) hx hb d_r_size_2 (by decide) ?_
  refine lv_istore_n (lv' := [(2, .int (nI 0)), (1, .int (nI 0)), (0, .ref (ad 0))]) hx hb d_r_size_3 rfl hl (by decide) rfl (fun ls hl => ?_)
  have L4 : ∀ (n : Nat) (k : Nat) (z : Nat) (σ : St) (H : Heap) (locs : List Loc) (ls : Array Slot), k ≤ 16 → 17 ≤ k + n → z = szN T k → Inv M U T σ → rW wr tr_ D ad cs A s σ H locs → lv_has ls 3 [(0, .ref (ad 0)), (1, .int (nI z)), (2, .int (nI k))] → W p l e { frames := 4, cells := 0, slots := 0, locals := 96 } s mi args below meth c H locs 0 0 (MQ below (va_Qi ((fun σ r σ' => r = nI (szN T 16) ∧ Inv M U T σ') σ0) (rB wr tr_ D ad cs A) A) args s 0 0 A) (F0 mi 4 ls []) := by
    intro n
    induction n with
    | zero =>
      intro k z σ H locs ls hk hn ez hinv2 hw hl
      omega
    | succ n ih4 =>
      intro k z σ H locs ls hk hn ez hinv2 hw hl
      refine lv_iload_n hx hb d_r_size_4 rfl (lv_at hl 2 rfl) ?_
      refine lv_bipush (v := nI 16) hx hb d_r_size_5 (by decide) ?_
      refine ln_icmp_ge (tgt := 34) hx hb d_r_size_7 (by decide) (⟨by omega, by omega⟩) (fun c_7 => ?_) (fun c_7 => ?_)
      · refine lv_iload_n hx hb d_r_size_34 rfl (lv_at hl 1 rfl) ?_
        exact r_iret S hr hlk hw d_r_size_35 (⟨by rw [ez, show k = 16 by omega], hinv2⟩)
      · refine lv_iload_n hx hb d_r_size_10 rfl (lv_at hl 1 rfl) ?_
        refine lv_aload_n hx hb d_r_size_11 rfl (lv_at hl 0 rfl) ?_
        refine lv_iload_n hx hb d_r_size_12 rfl (lv_at hl 2 rfl) ?_
        refine r_calli (rest := [.int (nI z)]) S hw k_r_r_numberOf (c_r_numberOf l k M U T hM hU (by omega)) (hinv2) rfl rfl ⟨by decide, by decide⟩ rfl hl.1 rfl (Nat.le_of_ble_eq_true rfl) ⟨Nat.le_refl _, Nat.le_refl _⟩ d_r_size_13 (fun r1 σ1 H locs hq1 hw => ?_)
        obtain ⟨er1, hinv1⟩ := hq1
        refine ln_top er1 ?_
        refine lv_ldc (v := (-200000)) hx hb hown (hts _ q_const_r_129) d_r_size_16 ?_
        refine lv_icmp_eq (tgt := 25) hx hb d_r_size_18 (by decide) (fun c_18 => ?_) (fun c_18 => ?_)
        · refine lv_iconst (v := nI 0) hx hb d_r_size_25 (by decide) ?_
          refine ln_iadd hx hb d_r_size_26 ?_
          refine lv_istore_n (lv' := [(1, .int (nI (z + 0))), (0, .ref (ad 0)), (2, .int (nI k))]) hx hb d_r_size_27 rfl hl (by decide) rfl (fun ls hl => ?_)
          refine ln_iinc (lv' := [(2, .int (nI (k + 1))), (1, .int (nI (z + 0))), (0, .ref (ad 0))]) hx hb d_r_size_28 hl (k := 2) rfl rfl (by decide) rfl (fun ls hl => ?_)
          refine lv_goto (tgt := 4) hx hb d_r_size_31 (by decide) ?_
          exact ih4 (k + 1) (z + 0) σ1 _ _ _ (by omega) (by omega) (by rw [ez]; show szN T k + _ = szN T k + _; first | rw [if_pos c_18] | rw [if_neg c_18]) hinv1 hw (lv_sub hl [2, 1, 0] rfl)
        · refine lv_iconst (v := nI 1) hx hb d_r_size_21 (by decide) ?_
          refine lv_goto (tgt := 26) hx hb d_r_size_22 (by decide) ?_
          refine ln_iadd hx hb d_r_size_26 ?_
          refine lv_istore_n (lv' := [(1, .int (nI (z + 1))), (0, .ref (ad 0)), (2, .int (nI k))]) hx hb d_r_size_27 rfl hl (by decide) rfl (fun ls hl => ?_)
          refine ln_iinc (lv' := [(2, .int (nI (k + 1))), (1, .int (nI (z + 1))), (0, .ref (ad 0))]) hx hb d_r_size_28 hl (k := 2) rfl rfl (by decide) rfl (fun ls hl => ?_)
          refine lv_goto (tgt := 4) hx hb d_r_size_31 (by decide) ?_
          exact ih4 (k + 1) (z + 1) σ1 _ _ _ (by omega) (by omega) (by rw [ez]; show szN T k + _ = szN T k + _; first | rw [if_pos c_18] | rw [if_neg c_18]) hinv1 hw (lv_sub hl [2, 1, 0] rfl)
  exact L4 17 (0) (0) σ0 _ _ _ (by omega) (by omega) rfl hinv hw (lv_sub hl [2, 1, 0] rfl)

set_option maxHeartbeats 4000000 in
set_option maxRecDepth 100000 in
theorem c_r_sum (l : Launch) (M : Nat) (U : Nat) (T : Tr) (hM : okM M) (hU : okW M U) : rCi wr tr_ l y_r_sum w_r_sum 4 96 [] (Inv M U T) (fun σ r σ' => r = smN T 16 ∧ Inv M U T σ') := by
  refine rCi.mk (b := b_r_sum) (nL := 4) (rt := .int) R_rr (by decide) rfl (Nat.le_of_ble_eq_true rfl) ?_
  intro D ad cs σ0 hinv p e s mi args below meth c A S hr hlk hw ls hl
  have hx := S.1
  have hb := S.2.1
  have hts := S.2.2.2.2
  have hown := S.2.2.2.1
  have hl : lv_has ls 4 [(0, .ref (ad 0))] := hl
  refine lv_iconst (v := nI 0) hx hb d_r_sum_0 (by decide) ?_
  refine lv_istore_n (lv' := [(1, .int (nI 0)), (0, .ref (ad 0))]) hx hb d_r_sum_1 rfl hl (by decide) rfl (fun ls hl => ?_)
  refine lv_iconst (v := nI 0) hx hb d_r_sum_2 (by decide) ?_
  refine lv_istore_n (lv' := [(2, .int (nI 0)), (1, .int (nI 0)), (0, .ref (ad 0))]) hx hb d_r_sum_3 rfl hl (by decide) rfl (fun ls hl => ?_)
  have L4 : ∀ (n : Nat) (k : Nat) (z : Int32) (σ : St) (H : Heap) (locs : List Loc) (ls : Array Slot), k ≤ 16 → 17 ≤ k + n → z = smN T k → Inv M U T σ → rW wr tr_ D ad cs A s σ H locs → lv_has ls 4 [(0, .ref (ad 0)), (1, .int (z)), (2, .int (nI k))] → W p l e { frames := 4, cells := 0, slots := 0, locals := 96 } s mi args below meth c H locs 0 0 (MQ below (va_Qi ((fun σ r σ' => r = smN T 16 ∧ Inv M U T σ') σ0) (rB wr tr_ D ad cs A) A) args s 0 0 A) (F0 mi 4 ls []) := by
    intro n
    induction n with
    | zero =>
      intro k z σ H locs ls hk hn ez hinv2 hw hl
      omega
    | succ n ih4 =>
      intro k z σ H locs ls hk hn ez hinv2 hw hl
      refine lv_iload_n hx hb d_r_sum_4 rfl (lv_at hl 2 rfl) ?_
      refine lv_bipush (v := nI 16) hx hb d_r_sum_5 (by decide) ?_
      refine ln_icmp_ge (tgt := 36) hx hb d_r_sum_7 (by decide) (⟨by omega, by omega⟩) (fun c_7 => ?_) (fun c_7 => ?_)
      · refine lv_iload_n hx hb d_r_sum_36 rfl (lv_at hl 1 rfl) ?_
        exact r_iret S hr hlk hw d_r_sum_37 (⟨by rw [ez, show k = 16 by omega], hinv2⟩)
      · refine lv_aload_n hx hb d_r_sum_10 rfl (lv_at hl 0 rfl) ?_
        refine lv_iload_n hx hb d_r_sum_11 rfl (lv_at hl 2 rfl) ?_
        refine r_calli (rest := []) S hw k_r_r_numberOf (c_r_numberOf l k M U T hM hU (by omega)) (hinv2) rfl rfl ⟨by decide, by decide⟩ rfl hl.1 rfl (Nat.le_of_ble_eq_true rfl) ⟨Nat.le_refl _, Nat.le_refl _⟩ d_r_sum_12 (fun r1 σ1 H locs hq1 hw => ?_)
        obtain ⟨er1, hinv1⟩ := hq1
        refine ln_top er1 ?_
        refine lv_istore_n (lv' := [(3, .int (num T k)), (0, .ref (ad 0)), (1, .int (z)), (2, .int (nI k))]) hx hb d_r_sum_15 rfl hl (by decide) rfl (fun ls hl => ?_)
        refine lv_iload_n hx hb d_r_sum_16 rfl (lv_at hl 2 rfl) ?_
        refine lv_iload_n hx hb d_r_sum_17 rfl (lv_at hl 0 rfl) ?_
        refine lv_ldc (v := (-200000)) hx hb hown (hts _ q_const_r_129) d_r_sum_18 ?_
        refine lv_icmp_ne (tgt := 27) hx hb d_r_sum_20 (by decide) (fun c_20 => ?_) (fun c_20 => ?_)
        · refine lv_iload_n hx hb d_r_sum_27 rfl (lv_at hl 0 rfl) ?_
          refine lv_iadd hx hb d_r_sum_28 ?_
          refine lv_istore_n (lv' := [(1, .int ((z) + (num T k))), (3, .int (num T k)), (0, .ref (ad 0)), (2, .int (nI k))]) hx hb d_r_sum_29 rfl hl (by decide) rfl (fun ls hl => ?_)
          refine ln_iinc (lv' := [(2, .int (nI (k + 1))), (1, .int ((z) + (num T k))), (3, .int (num T k)), (0, .ref (ad 0))]) hx hb d_r_sum_30 hl (k := 3) rfl rfl (by decide) rfl (fun ls hl => ?_)
          refine lv_goto (tgt := 4) hx hb d_r_sum_33 (by decide) ?_
          exact ih4 (k + 1) ((z) + (num T k)) σ1 _ _ _ (by omega) (by omega) (by rw [ez]; show smN T k + _ = smN T k + _; first | rw [if_pos c_20] | rw [if_neg c_20]) hinv1 hw (lv_sub hl [3, 1, 0] rfl)
        · refine lv_iconst (v := nI 0) hx hb d_r_sum_23 (by decide) ?_
          refine lv_goto (tgt := 28) hx hb d_r_sum_24 (by decide) ?_
          refine lv_iadd hx hb d_r_sum_28 ?_
          refine lv_istore_n (lv' := [(1, .int ((z) + (nI 0))), (3, .int (num T k)), (0, .ref (ad 0)), (2, .int (nI k))]) hx hb d_r_sum_29 rfl hl (by decide) rfl (fun ls hl => ?_)
          refine ln_iinc (lv' := [(2, .int (nI (k + 1))), (1, .int ((z) + (nI 0))), (3, .int (num T k)), (0, .ref (ad 0))]) hx hb d_r_sum_30 hl (k := 3) rfl rfl (by decide) rfl (fun ls hl => ?_)
          refine lv_goto (tgt := 4) hx hb d_r_sum_33 (by decide) ?_
          exact ih4 (k + 1) ((z) + (nI 0)) σ1 _ _ _ (by omega) (by omega) (by rw [ez]; show smN T k + _ = smN T k + _; first | rw [if_pos c_20] | rw [if_neg c_20]) hinv1 hw (lv_sub hl [3, 1, 0] rfl)
  exact L4 17 (0) (nI 0) σ0 _ _ _ (by omega) (by omega) rfl hinv hw (lv_sub hl [2, 1, 0] rfl)

set_option maxHeartbeats 4000000 in
set_option maxRecDepth 100000 in
theorem c_r_tidy (l : Launch) (M : Nat) (U : Nat) (T : Tr) (hM : okM M) (hU : okW M U) : rCi wr tr_ l y_r_tidy w_r_tidy 7 165 [] (Inv M U T) (fun σ r σ' => r = nI (szN T 16) ∧ Inv M U T σ') := by
  refine rCi.mk (b := b_r_tidy) (nL := 1) (rt := .int) R_rr (by decide) rfl (Nat.le_of_ble_eq_true rfl) ?_
  intro D ad cs σ0 hinv p e s mi args below meth c A S hr hlk hw ls hl
  have hx := S.1
  have hb := S.2.1
  have hts := S.2.2.2.2
  have hown := S.2.2.2.1
  have hl : lv_has ls 1 [(0, .ref (ad 0))] := hl
  refine lv_aload_n hx hb d_r_tidy_0 rfl (lv_at hl 0 rfl) ?_
  refine r_callv (rest := []) S hw k_r_r_compareAll (c_r_compareAll l M U T hM hU) (⟨hinv.1, hinv.2.1⟩) rfl rfl ⟨by decide, by decide⟩ rfl hl.1 rfl (Nat.le_of_ble_eq_true rfl) ⟨Nat.le_refl _, Nat.le_refl _⟩ d_r_tidy_1 (fun σ1 H locs hq1 hw => ?_)
  have hinv1 : Inv M U T σ1 := ⟨hq1.1, hq1.2.1, fun k hk => (hinv.2.2 k hk).mono hM hk hq1.2.2⟩
  refine lv_aload_n hx hb d_r_tidy_4 rfl (lv_at hl 0 rfl) ?_
  refine r_calli (rest := []) S hw k_r_r_size (c_r_size l M U T hM hU) (hinv1) rfl rfl ⟨by decide, by decide⟩ rfl hl.1 rfl (Nat.le_of_ble_eq_true rfl) ⟨Nat.le_refl _, Nat.le_refl _⟩ d_r_tidy_5 (fun r2 σ2 H locs hq2 hw => ?_)
  obtain ⟨er2, hinv2⟩ := hq2
  refine ln_top er2 ?_
  exact r_iret S hr hlk hw d_r_tidy_8 (⟨rfl, hinv2⟩)

set_option maxHeartbeats 4000000 in
set_option maxRecDepth 100000 in
theorem c_r_members (l : Launch) (M : Nat) (U : Nat) (T : Tr)  : rCi wr tr_ l y_r_members w_r_members 0 0 [] (Inv M U T) (fun σ r σ' => r = nI M ∧ σ' = σ) := by
  refine rCi.mk (b := b_r_members) (nL := 1) (rt := .int) R_rr (by decide) rfl (Nat.le_of_ble_eq_true rfl) ?_
  intro D ad cs σ0 hinv p e s mi args below meth c A S hr hlk hw ls hl
  have hx := S.1
  have hb := S.2.1
  have hts := S.2.2.2.2
  have hown := S.2.2.2.1
  have hl : lv_has ls 1 [(0, .ref (ad 0))] := hl
  refine lv_aload_n hx hb d_r_members_0 rfl (lv_at hl 0 rfl) ?_
  refine rg_0 S hw d_r_members_1 ?_
  exact r_iret S hr hlk hw d_r_members_4 (⟨hinv.1.m, rfl⟩)

set_option maxHeartbeats 4000000 in
set_option maxRecDepth 100000 in
theorem c_r_working (l : Launch) (M : Nat) (U : Nat) (T : Tr)  : rCi wr tr_ l y_r_working w_r_working 0 0 [] (Inv M U T) (fun σ r σ' => r = nI U ∧ σ' = σ) := by
  refine rCi.mk (b := b_r_working) (nL := 1) (rt := .int) R_rr (by decide) rfl (Nat.le_of_ble_eq_true rfl) ?_
  intro D ad cs σ0 hinv p e s mi args below meth c A S hr hlk hw ls hl
  have hx := S.1
  have hb := S.2.1
  have hts := S.2.2.2.2
  have hown := S.2.2.2.1
  have hl : lv_has ls 1 [(0, .ref (ad 0))] := hl
  refine lv_aload_n hx hb d_r_working_0 rfl (lv_at hl 0 rfl) ?_
  refine rg_1 S hw d_r_working_1 ?_
  exact r_iret S hr hlk hw d_r_working_4 (⟨hinv.1.u, rfl⟩)

set_option maxHeartbeats 4000000 in
set_option maxRecDepth 100000 in
theorem c_r_nextKey (l : Launch) (k : Int32) (M : Nat) (U : Nat) (T : Tr) (hM : okM M) (hU : okW M U) : rCi wr tr_ l y_r_nextKey w_r_nextKey 4 96 [.int (k)] (Inv M U T) (fun σ r σ' => r = nxN T (16 - k.toNatClampNeg) k.toNatClampNeg ∧ Inv M U T σ') := by
  refine rCi.mk (b := b_r_nextKey) (nL := 3) (rt := .int) R_rr (by decide) rfl (Nat.le_of_ble_eq_true rfl) ?_
  intro D ad cs σ0 hinv p e s mi args below meth c A S hr hlk hw ls hl
  have hx := S.1
  have hb := S.2.1
  have hts := S.2.2.2.2
  have hown := S.2.2.2.1
  have hl : lv_has ls 3 [(0, .ref (ad 0)), (1, .int (k))] := hl
  refine lv_iload_n hx hb d_r_nextKey_0 rfl (lv_at hl 1 rfl) ?_
  refine lv_if_ge (tgt := 8) hx hb d_r_nextKey_1 (by decide) (fun c_1 => ?_) (fun c_1 => ?_)
  · obtain ⟨kj, hkj, ekj⟩ := nI_of (show ¬ k < 0 from Int32.not_lt.mpr c_1)
    subst ekj
    refine lv_iload_n hx hb d_r_nextKey_8 rfl (lv_at hl 1 rfl) ?_
    refine lv_istore_n (lv' := [(2, .int (nI kj)), (0, .ref (ad 0)), (1, .int (nI kj))]) hx hb d_r_nextKey_9 rfl hl (by decide) rfl (fun ls hl => ?_)
    have L10 : ∀ (n : Nat) (i : Nat) (σ : St) (H : Heap) (locs : List Loc) (ls : Array Slot), i < 2 ^ 31 → 17 ≤ i + n ∧ 0 < n → nxN T (16 - i) i = nxN T (16 - (nI kj).toNatClampNeg) (nI kj).toNatClampNeg → Inv M U T σ → rW wr tr_ D ad cs A s σ H locs → lv_has ls 3 [(0, .ref (ad 0)), (2, .int (nI i))] → W p l e { frames := 4, cells := 0, slots := 0, locals := 96 } s mi args below meth c H locs 0 0 (MQ below (va_Qi ((fun σ r σ' => r = nxN T (16 - (nI kj).toNatClampNeg) (nI kj).toNatClampNeg ∧ Inv M U T σ') σ0) (rB wr tr_ D ad cs A) A) args s 0 0 A) (F0 mi 10 ls []) := by
      intro n
      induction n with
      | zero =>
        intro i σ H locs ls hi hn ez hinv2 hw hl
        omega
      | succ n ih10 =>
        intro i σ H locs ls hi hn ez hinv2 hw hl
        refine lv_iload_n hx hb d_r_nextKey_10 rfl (lv_at hl 1 rfl) ?_
        refine lv_bipush (v := nI 16) hx hb d_r_nextKey_11 (by decide) ?_
        refine ln_icmp_ge (tgt := 34) hx hb d_r_nextKey_13 (by decide) (⟨by omega, by omega⟩) (fun c_13 => ?_) (fun c_13 => ?_)
        · refine lv_ldc (v := (-200000)) hx hb hown (hts _ q_const_r_129) d_r_nextKey_34 ?_
          exact r_iret S hr hlk hw d_r_nextKey_36 (⟨(nxN_e c_13).symm.trans ez, hinv2⟩)
        · refine lv_aload_n hx hb d_r_nextKey_16 rfl (lv_at hl 0 rfl) ?_
          refine lv_iload_n hx hb d_r_nextKey_17 rfl (lv_at hl 1 rfl) ?_
          refine r_calli (rest := []) S hw k_r_r_numberOf (c_r_numberOf l i M U T hM hU (by omega)) (hinv2) rfl rfl ⟨by decide, by decide⟩ rfl hl.1 rfl (Nat.le_of_ble_eq_true rfl) ⟨Nat.le_refl _, Nat.le_refl _⟩ d_r_nextKey_18 (fun r1 σ1 H locs hq1 hw => ?_)
          obtain ⟨er1, hinv1⟩ := hq1
          refine ln_top er1 ?_
          refine lv_ldc (v := (-200000)) hx hb hown (hts _ q_const_r_129) d_r_nextKey_21 ?_
          refine lv_icmp_eq (tgt := 28) hx hb d_r_nextKey_23 (by decide) (fun c_23 => ?_) (fun c_23 => ?_)
          · refine ln_iinc (lv' := [(2, .int (nI (i + 1))), (0, .ref (ad 0))]) hx hb d_r_nextKey_28 hl (k := 1) rfl rfl (by decide) rfl (fun ls hl => ?_)
            refine lv_goto (tgt := 10) hx hb d_r_nextKey_31 (by decide) ?_
            exact ih10 (i + 1) σ1 _ _ _ (by omega) (by omega) ((nxN_n c_13 c_23).symm.trans ez) hinv1 hw (lv_sub hl [1, 0] rfl)
          · refine lv_iload_n hx hb d_r_nextKey_26 rfl (lv_at hl 1 rfl) ?_
            exact r_iret S hr hlk hw d_r_nextKey_27 (⟨(nxN_y c_13 c_23).symm.trans ez, hinv1⟩)
    exact L10 17 (kj) σ0 _ _ _ (by omega) (by omega) (by rw [nI_clamp hkj]) hinv hw (lv_sub hl [1, 0] rfl)
  · refine lv_iconst (v := nI 0) hx hb d_r_nextKey_4 (by decide) ?_
    refine lv_goto (tgt := 9) hx hb d_r_nextKey_5 (by decide) ?_
    refine lv_istore_n (lv' := [(2, .int (nI 0)), (0, .ref (ad 0)), (1, .int (k))]) hx hb d_r_nextKey_9 rfl hl (by decide) rfl (fun ls hl => ?_)
    have L10 : ∀ (n : Nat) (i : Nat) (σ : St) (H : Heap) (locs : List Loc) (ls : Array Slot), i < 2 ^ 31 → 17 ≤ i + n ∧ 0 < n → nxN T (16 - i) i = nxN T (16 - k.toNatClampNeg) k.toNatClampNeg → Inv M U T σ → rW wr tr_ D ad cs A s σ H locs → lv_has ls 3 [(0, .ref (ad 0)), (2, .int (nI i))] → W p l e { frames := 4, cells := 0, slots := 0, locals := 96 } s mi args below meth c H locs 0 0 (MQ below (va_Qi ((fun σ r σ' => r = nxN T (16 - k.toNatClampNeg) k.toNatClampNeg ∧ Inv M U T σ') σ0) (rB wr tr_ D ad cs A) A) args s 0 0 A) (F0 mi 10 ls []) := by
      intro n
      induction n with
      | zero =>
        intro i σ H locs ls hi hn ez hinv2 hw hl
        omega
      | succ n ih10 =>
        intro i σ H locs ls hi hn ez hinv2 hw hl
        refine lv_iload_n hx hb d_r_nextKey_10 rfl (lv_at hl 1 rfl) ?_
        refine lv_bipush (v := nI 16) hx hb d_r_nextKey_11 (by decide) ?_
        refine ln_icmp_ge (tgt := 34) hx hb d_r_nextKey_13 (by decide) (⟨by omega, by omega⟩) (fun c_13 => ?_) (fun c_13 => ?_)
        · refine lv_ldc (v := (-200000)) hx hb hown (hts _ q_const_r_129) d_r_nextKey_34 ?_
          exact r_iret S hr hlk hw d_r_nextKey_36 (⟨(nxN_e c_13).symm.trans ez, hinv2⟩)
        · refine lv_aload_n hx hb d_r_nextKey_16 rfl (lv_at hl 0 rfl) ?_
          refine lv_iload_n hx hb d_r_nextKey_17 rfl (lv_at hl 1 rfl) ?_
          refine r_calli (rest := []) S hw k_r_r_numberOf (c_r_numberOf l i M U T hM hU (by omega)) (hinv2) rfl rfl ⟨by decide, by decide⟩ rfl hl.1 rfl (Nat.le_of_ble_eq_true rfl) ⟨Nat.le_refl _, Nat.le_refl _⟩ d_r_nextKey_18 (fun r2 σ2 H locs hq2 hw => ?_)
          obtain ⟨er2, hinv2⟩ := hq2
          refine ln_top er2 ?_
          refine lv_ldc (v := (-200000)) hx hb hown (hts _ q_const_r_129) d_r_nextKey_21 ?_
          refine lv_icmp_eq (tgt := 28) hx hb d_r_nextKey_23 (by decide) (fun c_23 => ?_) (fun c_23 => ?_)
          · refine ln_iinc (lv' := [(2, .int (nI (i + 1))), (0, .ref (ad 0))]) hx hb d_r_nextKey_28 hl (k := 1) rfl rfl (by decide) rfl (fun ls hl => ?_)
            refine lv_goto (tgt := 10) hx hb d_r_nextKey_31 (by decide) ?_
            exact ih10 (i + 1) σ2 _ _ _ (by omega) (by omega) ((nxN_n c_13 c_23).symm.trans ez) hinv2 hw (lv_sub hl [1, 0] rfl)
          · refine lv_iload_n hx hb d_r_nextKey_26 rfl (lv_at hl 1 rfl) ?_
            exact r_iret S hr hlk hw d_r_nextKey_27 (⟨(nxN_y c_13 c_23).symm.trans ez, hinv2⟩)
    exact L10 17 (0) σ0 _ _ _ (by omega) (by omega) (by rw [neg_cl c_1]) hinv hw (lv_sub hl [1, 0] rfl)

set_option maxHeartbeats 4000000 in
set_option maxRecDepth 100000 in
theorem c_r_changes (l : Launch) (k : Int32) (M : Nat) (U : Nat) (T : Tr) (cn : Nat → Nat) (hM : okM M) (hU : okW M U) (hcn : ∀ k, k < 16 → (T k).1 = nI (cn k) ∧ cn k < 2 ^ 20) : rCi wr tr_ l y_r_changes w_r_changes 3 74 [.int (k)] (Inv M U T) (fun σ r σ' => (¬ inM k 16 ∧ r = cBAD ∧ σ' = σ) ∨ ∃ kj, kj < 16 ∧ k = nI kj ∧ r = nI (cn kj / 8) ∧ Inv M U T σ') := by
  refine rCi.mk (b := b_r_changes) (nL := 3) (rt := .int) R_rr (by decide) rfl (Nat.le_of_ble_eq_true rfl) ?_
  intro D ad cs σ0 hinv p e s mi args below meth c A S hr hlk hw ls hl
  have hx := S.1
  have hb := S.2.1
  have hts := S.2.2.2.2
  have hown := S.2.2.2.1
  have hl : lv_has ls 3 [(0, .ref (ad 0)), (1, .int (k))] := hl
  refine lv_iload_n hx hb d_r_changes_0 rfl (lv_at hl 1 rfl) ?_
  refine r_calls (rest := []) S k_r_r_isKey (c_r_isKey l (k)) ⟨by decide, by decide⟩ rfl hl.1 rfl (Nat.le_of_ble_eq_true rfl) ⟨Nat.le_refl _, Nat.le_refl _⟩ d_r_changes_1 ?_
  refine lb_if_ne (tgt := 10) hx hb d_r_changes_4 (by decide) (fun c_4 => ?_) (fun c_4 => ?_)
  · obtain ⟨kj, hkj, ekj⟩ := inM_of c_4 (by decide)
    subst ekj
    have hck := (hcn kj hkj).2
    refine lv_aload_n hx hb d_r_changes_10 rfl (lv_at hl 0 rfl) ?_
    refine r_calli (rest := []) S hw k_r_r_leader (c_r_leader l U hU.1 (lead hM hU)) (hinv.1.u) rfl rfl ⟨by decide, by decide⟩ rfl hl.1 rfl (Nat.le_of_ble_eq_true rfl) ⟨Nat.le_refl _, Nat.le_refl _⟩ d_r_changes_11 (fun r1 σ1 H locs hq1 hw => ?_)
    obtain ⟨lj1, hlj1, er1, hlb1, es1⟩ := hq1
    rw [es1] at hw
    refine ln_top er1 ?_
    refine lv_istore_n (lv' := [(2, .int (nI lj1)), (0, .ref (ad 0)), (1, .int (nI kj))]) hx hb d_r_changes_14 rfl hl (by decide) rfl (fun ls hl => ?_)
    refine lv_aload_n hx hb d_r_changes_15 rfl (lv_at hl 1 rfl) ?_
    refine lv_iload_n hx hb d_r_changes_16 rfl (lv_at hl 0 rfl) ?_
    refine lv_iload_n hx hb d_r_changes_17 rfl (lv_at hl 2 rfl) ?_
    refine r_callv (rest := []) S hw k_r_r_readNewest (c_r_readNewest l lj1 kj M U T hM hU (by omega)) (hinv.rdpre (by omega)) rfl rfl ⟨by decide, by decide⟩ rfl hl.1 rfl (Nat.le_of_ble_eq_true rfl) ⟨Nat.le_refl _, Nat.le_refl _⟩ d_r_changes_18 (fun σ2 H locs hq2 hw => ?_)
    have hinv2 := hinv.rd (by omega) hM hq2
    refine lv_aload_n hx hb d_r_changes_21 rfl (lv_at hl 1 rfl) ?_
    refine rg_13 S hw d_r_changes_22 ?_
    refine ln_top (hq2.2.2.2.1.trans (hcn kj hkj).1) ?_
    refine lv_bipush (v := nI 8) hx hb d_r_changes_25 (by decide) ?_
    refine ln_idiv hx hb d_r_changes_27 ⟨by omega, by omega, by omega⟩ ?_
    exact r_iret S hr hlk hw d_r_changes_28 (Or.inr ⟨kj, hkj, rfl, rfl, hinv2⟩)
  · refine lv_ldc (v := (-100000)) hx hb hown (hts _ q_const_r_136) d_r_changes_7 ?_
    exact r_iret S hr hlk hw d_r_changes_9 (Or.inl ⟨c_4, rfl, rfl⟩)
end
section
/-! the plain form -/
def wrF (μ : St) (k : Nat) (is v : Int32) : St := up2 (up2 (up2 μ 2 k is) 1 k v) 3 k (μ 3 k + nI 1)
abbrev fnd (μ : St) (k : Nat) : Int32 := if μ 2 k = 0 then cNONE else μ 1 k
/-- which machine is idle: none, or the one that is a member and doesn't work -/
def idR (M U : Nat) (id : Int32) : Prop := (id = -1 ∧ U = M) ∨ ∃ d, d < 6 ∧ id = nI d ∧ M.testBit d = true ∧ U = M ^^^ 2 ^ d
/-- the plain form holds members M, working ones U, the numbers T, the counts cn / 8 -/
def MR (M U : Nat) (T : Tr) (cn : Nat → Nat) (μ : St) : Prop := μ 0 3 = nI M ∧ idR M U (μ 0 4) ∧ (∀ k, isB (μ 2 k)) ∧ ∀ k, k < 16 → fnd μ k = num T k ∧ (μ 2 k = 0 ∨ isNum (μ 1 k)) ∧ μ 3 k = nI (cn k / 8)
theorem nI_gt {n : Nat} (hn : n + 1 < 2 ^ 31) {x : Int32} : nI n < x ↔ nI (n + 1) ≤ x := by
  rw [Int32.lt_iff_toInt_lt, Int32.le_iff_toInt_le, nI_toInt (by omega), nI_toInt (by omega)]; omega
theorem mem_and {M d : Nat} (hM : M < 64) (hd : d < 6) (hb : M.testBit d = true) (m : Int32) : mem (M ^^^ 2 ^ d) m ↔ mem M m ∧ ¬ m = nI d := by
  constructor
  · intro h
    obtain ⟨j, hj, rfl, hb2⟩ := mem_of h
    rw [and6b M hM d hd hb j hj] at hb2
    simp at hb2
    exact ⟨(mem_nI hj).mpr hb2.1, fun e => hb2.2 ((nI_eq (by omega) (by omega)).mp e)⟩
  · rintro ⟨h, hne⟩
    obtain ⟨j, hj, rfl, hb2⟩ := mem_of h
    refine (mem_nI hj).mpr ?_
    rw [and6b M hM d hd hb j hj, hb2]
    simp
    exact fun e => hne (by rw [e])
theorem works_iff {M U : Nat} {id m : Int32} (hM : okM M) (h : idR M U id) : mem U m ↔ mem M m ∧ ¬ m = id := by
  rcases h with ⟨rfl, rfl⟩ | ⟨d, hd, rfl, hb, rfl⟩
  · constructor
    · intro q
      refine ⟨q, fun e => ?_⟩
      subst e
      exact absurd q.1.1 (by decide)
    · exact fun q => q.1
  · exact mem_and hM.1 hd hb m
theorem xor_ne {M d : Nat} (hM : M < 64) (hd : d < 6) (hb : M.testBit d = true) : ¬ M ^^^ 2 ^ d = M := by
  intro e
  have h := and6b M hM d hd hb d hd
  rw [e, hb] at h
  simp at h
theorem idR_neg {M U : Nat} {id : Int32} (hM : okM M) (h : idR M U id) : id < 0 ↔ U = M := by
  rcases h with ⟨rfl, rfl⟩ | ⟨d, hd, rfl, hb, rfl⟩
  · exact ⟨fun _ => rfl, fun _ => by decide⟩
  · exact ⟨fun q => absurd q (nI_pos (by omega)), fun q => absurd q (xor_ne hM.1 hd hb)⟩
abbrev okA (c k v : Int32) : Prop := inM c 6 ∧ inM k 16 ∧ isNum v
abbrev hinF (U : Nat) (c k v : Int32) : Int32 := if okA c k v then (if mem U c then nI 0 else cREF) else cBAD
theorem hin_ge {U : Nat} {c k v : Int32} (h : 0 ≤ hinF U c k v) : okA c k v ∧ mem U c := by
  unfold hinF at h
  by_cases q : okA c k v
  · rw [if_pos q] at h
    by_cases z : mem U c
    · exact ⟨q, z⟩
    · rw [if_neg z] at h; exact absurd h (by decide)
  · rw [if_neg q] at h; exact absurd h (by decide)
theorem hin_bad {U : Nat} {c k v : Int32} (h : ¬ okA c k v) : hinF U c k v = cBAD := if_neg h
theorem hin_ref {U : Nat} {c k v : Int32} (h : okA c k v) (h2 : ¬ mem U c) : hinF U c k v = cREF := by unfold hinF; rw [if_pos h, if_neg h2]
theorem hin_ok {U : Nat} {c k v : Int32} (h : okA c k v) (h2 : mem U c) : 0 ≤ hinF U c k v := by unfold hinF; rw [if_pos h, if_pos h2]; decide
def cnew (cn : Nat → Nat) (k s : Nat) : Nat → Nat := fun j => if j = k then s else cn j
theorem num_lt : ¬ isNum cNONE := by decide
theorem MR.none {M U : Nat} {T : Tr} {cn : Nat → Nat} {μ : St} (h : MR M U T cn μ) {k : Nat} (hk : k < 16) : μ 2 k = 0 ↔ num T k = cNONE := by
  obtain ⟨h1, h2, -⟩ := h.2.2.2 k hk
  constructor
  · intro q
    rw [← h1]; exact if_pos q
  · intro q
    rcases h2 with h2 | h2
    · exact h2
    · by_cases z : μ 2 k = 0
      · exact z
      · have e : μ 1 k = cNONE := by
          have : fnd μ k = μ 1 k := if_neg z
          rw [← this, h1, q]
        rw [e] at h2
        exact absurd h2 num_lt
theorem MR.val {M U : Nat} {T : Tr} {cn : Nat → Nat} {μ : St} (h : MR M U T cn μ) {k : Nat} (hk : k < 16) (q : ¬ μ 2 k = 0) : μ 1 k = num T k := by
  rw [← (h.2.2.2 k hk).1]; exact (if_neg q).symm
theorem MR.write {M U : Nat} {T : Tr} {cn : Nat → Nat} {μ : St} (h : MR M U T cn μ) {k s : Nat} {is v t : Int32} (hB : isB is) (hv : is = 0 ∨ isNum v) (hn : nmF (nI s) v t = if is = 0 then cNONE else v) (hs : s / 8 = cn k / 8 + 1) : MR M U (Tnew T k s v t) (cnew cn k s) (wrF μ k is v) := by
  obtain ⟨h1, h2, h3, h4⟩ := h
  refine ⟨h1, h2, fun j => ?_, fun j hj => ?_⟩
  · by_cases e : j = k
    · subst e; show isB (up2 μ 2 j is 2 j); rw [up2_s]; exact hB
    · show isB (up2 μ 2 k is 2 j); rw [up2_n e]; exact h3 j
  · by_cases e : j = k
    · subst e
      have e1 : wrF μ j is v 2 j = is := by show up2 μ 2 j is 2 j = is; rw [up2_s]
      have e2 : wrF μ j is v 1 j = v := by show up2 (up2 μ 2 j is) 1 j v 1 j = v; rw [up2_s]
      have e3 : wrF μ j is v 3 j = μ 3 j + nI 1 := up2_s _ _ _ _
      refine ⟨?_, ?_, ?_⟩
      · unfold fnd num; rw [e1, e2, Tnew_s, hn]
      · rw [e1, e2]; exact hv
      · rw [e3, (h4 j hj).2.2, nI_add]; unfold cnew; rw [if_pos rfl, hs]
    · have e1 : wrF μ k is v 2 j = μ 2 j := by show up2 μ 2 k is 2 j = _; rw [up2_n e]
      have e2 : wrF μ k is v 1 j = μ 1 j := by show up2 (up2 μ 2 k is) 1 k v 1 j = _; rw [up2_n e]; rfl
      have e3 : wrF μ k is v 3 j = μ 3 j := up2_n e
      unfold fnd num
      rw [e1, e2, e3, Tnew_o e]
      refine ⟨(h4 j hj).1, (h4 j hj).2.1, ?_⟩
      unfold cnew; rw [if_neg e]; exact (h4 j hj).2.2
theorem nmF_put {s : Nat} {v : Int32} (h0 : 0 < s) (h : s < 2 ^ 31) : nmF (nI s) v (nI 0) = if nI 1 = 0 then cNONE else v := by
  unfold nmF
  rw [if_neg (show ¬ nI 1 = 0 by decide), if_neg (fun q => q.elim (nI_ne0 h0 h) (fun z => z (by decide)))]
theorem nmF_rem {s : Nat} {v : Int32} : nmF (nI s) v (nI 1) = if nI 0 = 0 then cNONE else v := by
  unfold nmF
  rw [if_pos (show nI 0 = 0 by decide), if_pos (Or.inr (by decide))]
theorem lt_cl {j : Nat} (hj : j < 2 ^ 31) {k : Int32} : nI j < k ↔ j < k.toNatClampNeg := by
  rw [Int32.lt_iff_toInt_lt, nI_toInt hj]
  show (j : Int) < k.toInt ↔ j < k.toInt.toNat
  omega
def mputP (M U : Nat) (T : Tr) (cn : Nat → Nat) (c k v : Int32) (μ : St) (r : Int32) (μ' : St) : Prop :=
  (¬ okA c k v → r = cBAD ∧ μ' = μ) ∧ (okA c k v → ¬ mem U c → r = cREF ∧ μ' = μ) ∧
  ∀ cj kj, cj < 6 → kj < 16 → c = nI cj → k = nI kj → isNum v → U.testBit cj = true → r = num T kj ∧ MR M U (Tnew T kj ((cn kj / 8 + 1) * 8 + cj) v (nI 0)) (cnew cn kj ((cn kj / 8 + 1) * 8 + cj)) μ'
def mgetP (U : Nat) (T : Tr) (c k : Int32) (μ : St) (r : Int32) (μ' : St) : Prop :=
  μ' = μ ∧ (¬ (inM c 6 ∧ inM k 16) → r = cBAD) ∧ ((inM c 6 ∧ inM k 16) → ¬ mem U c → r = cREF) ∧
  ∀ cj kj, cj < 6 → kj < 16 → c = nI cj → k = nI kj → U.testBit cj = true → r = num T kj
def mremP (M U : Nat) (T : Tr) (cn : Nat → Nat) (c k : Int32) (μ : St) (r : Int32) (μ' : St) : Prop :=
  (¬ (inM c 6 ∧ inM k 16) → r = cBAD ∧ μ' = μ) ∧ ((inM c 6 ∧ inM k 16) → ¬ mem U c → r = cREF ∧ μ' = μ) ∧
  ∀ cj kj, cj < 6 → kj < 16 → c = nI cj → k = nI kj → U.testBit cj = true → r = num T kj ∧ MR M U (Tnew T kj ((cn kj / 8 + 1) * 8 + cj) (nI 0) (nI 1)) (cnew cn kj ((cn kj / 8 + 1) * 8 + cj)) μ'
def maddP (M U : Nat) (T : Tr) (cn : Nat → Nat) (c k d : Int32) (μ : St) (r : Int32) (μ' : St) : Prop :=
  (¬ okA c k d → r = cBAD ∧ μ' = μ) ∧ (okA c k d → ¬ mem U c → r = cREF ∧ μ' = μ) ∧
  ∀ cj kj, cj < 6 → kj < 16 → c = nI cj → k = nI kj → isNum d → U.testBit cj = true → (¬ isNum (sumN T kj d) → r = cREF ∧ μ' = μ) ∧ (isNum (sumN T kj d) → r = sumN T kj d ∧ MR M U (Tnew T kj ((cn kj / 8 + 1) * 8 + cj) (sumN T kj d) (nI 0)) (cnew cn kj ((cn kj / 8 + 1) * 8 + cj)) μ')
theorem okA_of {cj kj : Nat} {v : Int32} (h1 : cj < 6) (h2 : kj < 16) (h : isNum v) : okA (nI cj) (nI kj) v := ⟨inM_nI h1 (by decide), inM_nI h2 (by decide), h⟩
theorem isNum_0 : isNum (nI 0) := by decide

set_option maxHeartbeats 4000000 in
set_option maxRecDepth 100000 in
theorem c_m_machine (l : Launch) (x : Int32)  : rCi wm tm_ l y_m_machine w_m_machine 0 0 [.int (x)] (fun _ => True) (fun σ r σ' => σ' = σ ∧ r = bI (inM x 6)) := by
  refine rCi.mk (b := b_m_machine) (nL := 2) (rt := .boolean) R_md (by decide) rfl (Nat.le_of_ble_eq_true rfl) ?_
  intro D ad cs σ0 hpre p e s mi args below meth c A S hr hlk hw ls hl
  have hx := S.1
  have hb := S.2.1
  have hts := S.2.2.2.2
  have hown := S.2.2.2.1
  have hl : lv_has ls 2 [(0, .ref (ad 0)), (1, .int (x))] := hl
  refine lv_iload_n hx hb d_m_machine_0 rfl (lv_at hl 1 rfl) ?_
  refine lv_if_lt (tgt := 13) hx hb d_m_machine_1 (by decide) (fun c_1 => ?_) (fun c_1 => ?_)
  · refine lv_iconst (v := nI 0) hx hb d_m_machine_13 (by decide) ?_
    exact r_zret S hr hlk hw d_m_machine_14 (isB_n0) (⟨rfl, bI_f (fun h => by first | exact h.1 c_1 | exact h.2 ((nI_gt (by decide)).mp c_6))⟩)
  · refine lv_iload_n hx hb d_m_machine_4 rfl (lv_at hl 1 rfl) ?_
    refine lv_iconst (v := nI 5) hx hb d_m_machine_5 (by decide) ?_
    refine lv_icmp_gt (tgt := 13) hx hb d_m_machine_6 (by decide) (fun c_6 => ?_) (fun c_6 => ?_)
    · refine lv_iconst (v := nI 0) hx hb d_m_machine_13 (by decide) ?_
      exact r_zret S hr hlk hw d_m_machine_14 (isB_n0) (⟨rfl, bI_f (fun h => by first | exact h.1 c_1 | exact h.2 ((nI_gt (by decide)).mp c_6))⟩)
    · refine lv_iconst (v := nI 1) hx hb d_m_machine_9 (by decide) ?_
      refine lv_goto (tgt := 14) hx hb d_m_machine_10 (by decide) ?_
      exact r_zret S hr hlk hw d_m_machine_14 (isB_n1) (⟨rfl, bI_t ⟨c_1, fun h => c_6 ((nI_gt (by decide)).mpr h)⟩⟩)

set_option maxHeartbeats 4000000 in
set_option maxRecDepth 100000 in
theorem c_m_key (l : Launch) (x : Int32)  : rCi wm tm_ l y_m_key w_m_key 0 0 [.int (x)] (fun _ => True) (fun σ r σ' => σ' = σ ∧ r = bI (inM x 16)) := by
  refine rCi.mk (b := b_m_key) (nL := 2) (rt := .boolean) R_md (by decide) rfl (Nat.le_of_ble_eq_true rfl) ?_
  intro D ad cs σ0 hpre p e s mi args below meth c A S hr hlk hw ls hl
  have hx := S.1
  have hb := S.2.1
  have hts := S.2.2.2.2
  have hown := S.2.2.2.1
  have hl : lv_has ls 2 [(0, .ref (ad 0)), (1, .int (x))] := hl
  refine lv_iload_n hx hb d_m_key_0 rfl (lv_at hl 1 rfl) ?_
  refine lv_if_lt (tgt := 14) hx hb d_m_key_1 (by decide) (fun c_1 => ?_) (fun c_1 => ?_)
  · refine lv_iconst (v := nI 0) hx hb d_m_key_14 (by decide) ?_
    exact r_zret S hr hlk hw d_m_key_15 (isB_n0) (⟨rfl, bI_f (fun h => by first | exact h.1 c_1 | exact h.2 ((nI_gt (by decide)).mp c_7))⟩)
  · refine lv_iload_n hx hb d_m_key_4 rfl (lv_at hl 1 rfl) ?_
    refine lv_bipush (v := nI 15) hx hb d_m_key_5 (by decide) ?_
    refine lv_icmp_gt (tgt := 14) hx hb d_m_key_7 (by decide) (fun c_7 => ?_) (fun c_7 => ?_)
    · refine lv_iconst (v := nI 0) hx hb d_m_key_14 (by decide) ?_
      exact r_zret S hr hlk hw d_m_key_15 (isB_n0) (⟨rfl, bI_f (fun h => by first | exact h.1 c_1 | exact h.2 ((nI_gt (by decide)).mp c_7))⟩)
    · refine lv_iconst (v := nI 1) hx hb d_m_key_10 (by decide) ?_
      refine lv_goto (tgt := 15) hx hb d_m_key_11 (by decide) ?_
      exact r_zret S hr hlk hw d_m_key_15 (isB_n1) (⟨rfl, bI_t ⟨c_1, fun h => c_7 ((nI_gt (by decide)).mpr h)⟩⟩)

set_option maxHeartbeats 4000000 in
set_option maxRecDepth 100000 in
theorem c_m_fits (l : Launch) (x : Int32)  : rCi wm tm_ l y_m_fits w_m_fits 0 0 [.int (x)] (fun _ => True) (fun σ r σ' => σ' = σ ∧ r = bI (isNum x)) := by
  refine rCi.mk (b := b_m_fits) (nL := 2) (rt := .boolean) R_md (by decide) rfl (Nat.le_of_ble_eq_true rfl) ?_
  intro D ad cs σ0 hpre p e s mi args below meth c A S hr hlk hw ls hl
  have hx := S.1
  have hb := S.2.1
  have hts := S.2.2.2.2
  have hown := S.2.2.2.1
  have hl : lv_has ls 2 [(0, .ref (ad 0)), (1, .int (x))] := hl
  refine lv_iload_n hx hb d_m_fits_0 rfl (lv_at hl 1 rfl) ?_
  refine lv_sipush (v := (-9999)) hx hb d_m_fits_1 (by decide) ?_
  refine lv_icmp_lt (tgt := 18) hx hb d_m_fits_4 (by decide) (fun c_4 => ?_) (fun c_4 => ?_)
  · refine lv_iconst (v := nI 0) hx hb d_m_fits_18 (by decide) ?_
    exact r_zret S hr hlk hw d_m_fits_19 (isB_n0) (⟨rfl, bI_f (fun h => by first | exact h.1 c_4 | exact h.2 c_11)⟩)
  · refine lv_iload_n hx hb d_m_fits_7 rfl (lv_at hl 1 rfl) ?_
    refine lv_sipush (v := nI 9999) hx hb d_m_fits_8 (by decide) ?_
    refine lv_icmp_gt (tgt := 18) hx hb d_m_fits_11 (by decide) (fun c_11 => ?_) (fun c_11 => ?_)
    · refine lv_iconst (v := nI 0) hx hb d_m_fits_18 (by decide) ?_
      exact r_zret S hr hlk hw d_m_fits_19 (isB_n0) (⟨rfl, bI_f (fun h => by first | exact h.1 c_4 | exact h.2 c_11)⟩)
    · refine lv_iconst (v := nI 1) hx hb d_m_fits_14 (by decide) ?_
      refine lv_goto (tgt := 19) hx hb d_m_fits_15 (by decide) ?_
      exact r_zret S hr hlk hw d_m_fits_19 (isB_n1) (⟨rfl, bI_t ⟨c_4, c_11⟩⟩)

set_option maxHeartbeats 4000000 in
set_option maxRecDepth 100000 in
theorem c_m_member (l : Launch) (x : Int32) (M : Nat) (hM : M < 64) : rCi wm tm_ l y_m_member w_m_member 1 21 [.int (x)] (fun σ => σ 0 3 = nI M) (fun σ r σ' => σ' = σ ∧ r = bI (mem M x)) := by
  refine rCi.mk (b := b_m_member) (nL := 2) (rt := .boolean) R_md (by decide) rfl (Nat.le_of_ble_eq_true rfl) ?_
  intro D ad cs σ0 hpre p e s mi args below meth c A S hr hlk hw ls hl
  have hx := S.1
  have hb := S.2.1
  have hts := S.2.2.2.2
  have hown := S.2.2.2.1
  have hl : lv_has ls 2 [(0, .ref (ad 0)), (1, .int (x))] := hl
  refine lv_aload_n hx hb d_m_member_0 rfl (lv_at hl 0 rfl) ?_
  refine lv_iload_n hx hb d_m_member_1 rfl (lv_at hl 1 rfl) ?_
  refine r_calli (rest := []) S hw k_m_m_machine (c_m_machine l (x)) (trivial) rfl rfl ⟨by decide, by decide⟩ rfl hl.1 rfl (Nat.le_of_ble_eq_true rfl) ⟨Nat.le_refl _, Nat.le_refl _⟩ d_m_member_2 (fun r1 σ1 H locs hq1 hw => ?_)
  obtain ⟨es1, er1⟩ := hq1
  rw [es1] at hw
  refine ln_top (er1) ?_
  refine lb_if_eq (tgt := 24) hx hb d_m_member_5 (by decide) (fun c_5 => ?_) (fun c_5 => ?_)
  · refine lv_iconst (v := nI 0) hx hb d_m_member_24 (by decide) ?_
    exact r_zret S hr hlk hw d_m_member_25 (isB_n0) (⟨rfl, bI_f (fun h => by first | exact c_17 (bI_1.mpr ((mem_nI hj).mp h)) | exact c_5 h.1)⟩)
  · refine lv_aload_n hx hb d_m_member_8 rfl (lv_at hl 0 rfl) ?_
    refine mg_3 S hw d_m_member_9 ?_
    refine ln_top (hpre) ?_
    refine lv_iload_n hx hb d_m_member_12 rfl (lv_at hl 1 rfl) ?_
    refine lv_ishr hx hb d_m_member_13 ?_
    refine lv_iconst (v := nI 1) hx hb d_m_member_14 (by decide) ?_
    refine lv_iand hx hb d_m_member_15 ?_
    obtain ⟨j, hj, ej⟩ := inM_of c_5 (by omega)
    subst ej
    refine ln_top (bit6 M hM j hj) ?_
    refine lv_iconst (v := nI 1) hx hb d_m_member_16 (by decide) ?_
    refine lv_icmp_ne (tgt := 24) hx hb d_m_member_17 (by decide) (fun c_17 => ?_) (fun c_17 => ?_)
    · refine lv_iconst (v := nI 0) hx hb d_m_member_24 (by decide) ?_
      exact r_zret S hr hlk hw d_m_member_25 (isB_n0) (⟨rfl, bI_f (fun h => by first | exact c_17 (bI_1.mpr ((mem_nI hj).mp h)) | exact c_5 h.1)⟩)
    · refine lv_iconst (v := nI 1) hx hb d_m_member_20 (by decide) ?_
      refine lv_goto (tgt := 25) hx hb d_m_member_21 (by decide) ?_
      exact r_zret S hr hlk hw d_m_member_25 (isB_n1) (⟨rfl, bI_t ((mem_nI hj).mpr (bI_1.mp c_17))⟩)

set_option maxHeartbeats 4000000 in
set_option maxRecDepth 100000 in
theorem c_m_works (l : Launch) (x : Int32) (M : Nat) (U : Nat) (hM : okM M) : rCi wm tm_ l y_m_works w_m_works 2 42 [.int (x)] (fun σ => σ 0 3 = nI M ∧ idR M U (σ 0 4)) (fun σ r σ' => σ' = σ ∧ r = bI (mem U x)) := by
  refine rCi.mk (b := b_m_works) (nL := 2) (rt := .boolean) R_md (by decide) rfl (Nat.le_of_ble_eq_true rfl) ?_
  intro D ad cs σ0 hpre p e s mi args below meth c A S hr hlk hw ls hl
  have hx := S.1
  have hb := S.2.1
  have hts := S.2.2.2.2
  have hown := S.2.2.2.1
  have hl : lv_has ls 2 [(0, .ref (ad 0)), (1, .int (x))] := hl
  refine lv_aload_n hx hb d_m_works_0 rfl (lv_at hl 0 rfl) ?_
  refine lv_iload_n hx hb d_m_works_1 rfl (lv_at hl 1 rfl) ?_
  refine r_calli (rest := []) S hw k_m_m_member (c_m_member l (x) M hM.1) (hpre.1) rfl rfl ⟨by decide, by decide⟩ rfl hl.1 rfl (Nat.le_of_ble_eq_true rfl) ⟨Nat.le_refl _, Nat.le_refl _⟩ d_m_works_2 (fun r1 σ1 H locs hq1 hw => ?_)
  obtain ⟨es1, er1⟩ := hq1
  rw [es1] at hw
  refine ln_top (er1) ?_
  refine lb_if_eq (tgt := 20) hx hb d_m_works_5 (by decide) (fun c_5 => ?_) (fun c_5 => ?_)
  · refine lv_iconst (v := nI 0) hx hb d_m_works_20 (by decide) ?_
    exact r_zret S hr hlk hw d_m_works_21 (isB_n0) (⟨rfl, bI_f (fun h => by have q := (works_iff hM hpre.2).mp h; first | exact c_5 q.1 | exact q.2 c_13)⟩)
  · refine lv_iload_n hx hb d_m_works_8 rfl (lv_at hl 1 rfl) ?_
    refine lv_aload_n hx hb d_m_works_9 rfl (lv_at hl 0 rfl) ?_
    refine mg_4 S hw d_m_works_10 ?_
    refine lv_icmp_eq (tgt := 20) hx hb d_m_works_13 (by decide) (fun c_13 => ?_) (fun c_13 => ?_)
    · refine lv_iconst (v := nI 0) hx hb d_m_works_20 (by decide) ?_
      exact r_zret S hr hlk hw d_m_works_21 (isB_n0) (⟨rfl, bI_f (fun h => by have q := (works_iff hM hpre.2).mp h; first | exact c_5 q.1 | exact q.2 c_13)⟩)
    · refine lv_iconst (v := nI 1) hx hb d_m_works_16 (by decide) ?_
      refine lv_goto (tgt := 21) hx hb d_m_works_17 (by decide) ?_
      exact r_zret S hr hlk hw d_m_works_21 (isB_n1) (⟨rfl, bI_t ((works_iff hM hpre.2).mpr ⟨c_5, c_13⟩)⟩)

set_option maxHeartbeats 4000000 in
set_option maxRecDepth 100000 in
theorem c_m_found (l : Launch) (k : Nat) (hk : k < 16) : rCi wm tm_ l y_m_found w_m_found 0 0 [.int (nI k)] (fun _ => True) (fun σ r σ' => σ' = σ ∧ r = fnd σ k) := by
  refine rCi.mk (b := b_m_found) (nL := 2) (rt := .int) R_md (by decide) rfl (Nat.le_of_ble_eq_true rfl) ?_
  intro D ad cs σ0 hpre p e s mi args below meth c A S hr hlk hw ls hl
  have hx := S.1
  have hb := S.2.1
  have hts := S.2.2.2.2
  have hown := S.2.2.2.1
  have hl : lv_has ls 2 [(0, .ref (ad 0)), (1, .int (nI k))] := hl
  refine lv_aload_n hx hb d_m_found_0 rfl (lv_at hl 0 rfl) ?_
  refine mg_1 S hw d_m_found_1 ?_
  refine lv_iload_n hx hb d_m_found_4 rfl (lv_at hl 1 rfl) ?_
  refine ml_2 S hw d_m_found_5 (by omega) ?_
  refine lv_if_eq (tgt := 18) hx hb d_m_found_6 (by decide) (fun c_6 => ?_) (fun c_6 => ?_)
  · refine lv_ldc (v := (-200000)) hx hb hown (hts _ q_const_m_34) d_m_found_18 ?_
    exact r_iret S hr hlk hw d_m_found_20 (⟨rfl, (if_pos c_6).symm⟩)
  · refine lv_aload_n hx hb d_m_found_9 rfl (lv_at hl 0 rfl) ?_
    refine mg_0 S hw d_m_found_10 ?_
    refine lv_iload_n hx hb d_m_found_13 rfl (lv_at hl 1 rfl) ?_
    refine ml_1 S hw d_m_found_14 (by omega) ?_
    refine lv_goto (tgt := 20) hx hb d_m_found_15 (by decide) ?_
    exact r_iret S hr hlk hw d_m_found_20 (⟨rfl, (if_neg c_6).symm⟩)

set_option maxHeartbeats 4000000 in
set_option maxRecDepth 100000 in
theorem c_m_hindrance (l : Launch) (cx : Int32) (k : Int32) (v : Int32) (M : Nat) (U : Nat) (hM : okM M) : rCi wm tm_ l y_m_hindrance w_m_hindrance 3 63 [.int (cx), .int (k), .int (v)] (fun σ => σ 0 3 = nI M ∧ idR M U (σ 0 4)) (fun σ r σ' => σ' = σ ∧ r = hinF U cx k v) := by
  refine rCi.mk (b := b_m_hindrance) (nL := 4) (rt := .int) R_md (by decide) rfl (Nat.le_of_ble_eq_true rfl) ?_
  intro D ad cs σ0 hpre p e s mi args below meth c A S hr hlk hw ls hl
  have hx := S.1
  have hb := S.2.1
  have hts := S.2.2.2.2
  have hown := S.2.2.2.1
  have hl : lv_has ls 4 [(0, .ref (ad 0)), (1, .int (cx)), (2, .int (k)), (3, .int (v))] := hl
  refine lv_aload_n hx hb d_m_hindrance_0 rfl (lv_at hl 0 rfl) ?_
  refine lv_iload_n hx hb d_m_hindrance_1 rfl (lv_at hl 1 rfl) ?_
  refine r_calli (rest := []) S hw k_m_m_machine (c_m_machine l (cx)) (trivial) rfl rfl ⟨by decide, by decide⟩ rfl hl.1 rfl (Nat.le_of_ble_eq_true rfl) ⟨Nat.le_refl _, Nat.le_refl _⟩ d_m_hindrance_2 (fun r1 σ1 H locs hq1 hw => ?_)
  obtain ⟨es1, er1⟩ := hq1
  rw [es1] at hw
  refine ln_top (er1) ?_
  refine lb_if_eq (tgt := 24) hx hb d_m_hindrance_5 (by decide) (fun c_5 => ?_) (fun c_5 => ?_)
  · refine lv_ldc (v := (-100000)) hx hb hown (hts _ q_const_m_41) d_m_hindrance_24 ?_
    refine lv_goto (tgt := 43) hx hb d_m_hindrance_26 (by decide) ?_
    exact r_iret S hr hlk hw d_m_hindrance_43 (⟨rfl, (hin_bad (fun h => by first | exact c_5 h.1 | exact c_13 h.2.1 | exact c_21 h.2.2)).symm⟩)
  · refine lv_aload_n hx hb d_m_hindrance_8 rfl (lv_at hl 0 rfl) ?_
    refine lv_iload_n hx hb d_m_hindrance_9 rfl (lv_at hl 2 rfl) ?_
    refine r_calli (rest := []) S hw k_m_m_key (c_m_key l (k)) (trivial) rfl rfl ⟨by decide, by decide⟩ rfl hl.1 rfl (Nat.le_of_ble_eq_true rfl) ⟨Nat.le_refl _, Nat.le_refl _⟩ d_m_hindrance_10 (fun r2 σ2 H locs hq2 hw => ?_)
    obtain ⟨es2, er2⟩ := hq2
    rw [es2] at hw
    refine ln_top (er2) ?_
    refine lb_if_eq (tgt := 24) hx hb d_m_hindrance_13 (by decide) (fun c_13 => ?_) (fun c_13 => ?_)
    · refine lv_ldc (v := (-100000)) hx hb hown (hts _ q_const_m_41) d_m_hindrance_24 ?_
      refine lv_goto (tgt := 43) hx hb d_m_hindrance_26 (by decide) ?_
      exact r_iret S hr hlk hw d_m_hindrance_43 (⟨rfl, (hin_bad (fun h => by first | exact c_5 h.1 | exact c_13 h.2.1 | exact c_21 h.2.2)).symm⟩)
    · refine lv_aload_n hx hb d_m_hindrance_16 rfl (lv_at hl 0 rfl) ?_
      refine lv_iload_n hx hb d_m_hindrance_17 rfl (lv_at hl 3 rfl) ?_
      refine r_calli (rest := []) S hw k_m_m_fits (c_m_fits l (v)) (trivial) rfl rfl ⟨by decide, by decide⟩ rfl hl.1 rfl (Nat.le_of_ble_eq_true rfl) ⟨Nat.le_refl _, Nat.le_refl _⟩ d_m_hindrance_18 (fun r3 σ3 H locs hq3 hw => ?_)
      obtain ⟨es3, er3⟩ := hq3
      rw [es3] at hw
      refine ln_top (er3) ?_
      refine lb_if_ne (tgt := 29) hx hb d_m_hindrance_21 (by decide) (fun c_21 => ?_) (fun c_21 => ?_)
      · refine lv_aload_n hx hb d_m_hindrance_29 rfl (lv_at hl 0 rfl) ?_
        refine lv_iload_n hx hb d_m_hindrance_30 rfl (lv_at hl 1 rfl) ?_
        refine r_calli (rest := []) S hw k_m_m_works (c_m_works l (cx) M U hM) (hpre) rfl rfl ⟨by decide, by decide⟩ rfl hl.1 rfl (Nat.le_of_ble_eq_true rfl) ⟨Nat.le_refl _, Nat.le_refl _⟩ d_m_hindrance_31 (fun r4 σ4 H locs hq4 hw => ?_)
        obtain ⟨es4, er4⟩ := hq4
        rw [es4] at hw
        refine ln_top (er4) ?_
        refine lb_if_eq (tgt := 41) hx hb d_m_hindrance_34 (by decide) (fun c_34 => ?_) (fun c_34 => ?_)
        · refine lv_ldc (v := (-300000)) hx hb hown (hts _ q_const_m_45) d_m_hindrance_41 ?_
          exact r_iret S hr hlk hw d_m_hindrance_43 (⟨rfl, (hin_ref ⟨c_5, c_13, c_21⟩ c_34).symm⟩)
        · refine lv_iconst (v := nI 0) hx hb d_m_hindrance_37 (by decide) ?_
          refine lv_goto (tgt := 43) hx hb d_m_hindrance_38 (by decide) ?_
          exact r_iret S hr hlk hw d_m_hindrance_43 (⟨rfl, by unfold hinF; rw [if_pos ⟨c_5, c_13, c_21⟩, if_pos c_34]⟩)
      · refine lv_ldc (v := (-100000)) hx hb hown (hts _ q_const_m_41) d_m_hindrance_24 ?_
        refine lv_goto (tgt := 43) hx hb d_m_hindrance_26 (by decide) ?_
        exact r_iret S hr hlk hw d_m_hindrance_43 (⟨rfl, (hin_bad (fun h => by first | exact c_5 h.1 | exact c_13 h.2.1 | exact c_21 h.2.2)).symm⟩)

set_option maxHeartbeats 4000000 in
set_option maxRecDepth 100000 in
theorem c_m_write (l : Launch) (k : Nat) (is : Int32) (v : Int32) (hk : k < 16) (hB : isB is) : rCv wm tm_ l y_m_write w_m_write 0 0 [.int (nI k), .int (is), .int (v)] (fun _ => True) (fun σ σ' => σ' = wrF σ k is v) := by
  refine rCv.mk (b := b_m_write) (nL := 4) R_md (by decide) rfl (Nat.le_of_ble_eq_true rfl) ?_
  intro D ad cs σ0 hpre p e s mi args below meth c A S hr hlk hw ls hl
  have hx := S.1
  have hb := S.2.1
  have hts := S.2.2.2.2
  have hown := S.2.2.2.1
  have hl : lv_has ls 4 [(0, .ref (ad 0)), (1, .int (nI k)), (2, .int (is)), (3, .int (v))] := hl
  refine lv_aload_n hx hb d_m_write_0 rfl (lv_at hl 0 rfl) ?_
  refine mg_1 S hw d_m_write_1 ?_
  refine lv_iload_n hx hb d_m_write_4 rfl (lv_at hl 1 rfl) ?_
  refine lv_iload_n hx hb d_m_write_5 rfl (lv_at hl 2 rfl) ?_
  refine ms_2 S hw d_m_write_6 (by omega) (hB) (fun H locs hw => ?_)
  refine lv_aload_n hx hb d_m_write_7 rfl (lv_at hl 0 rfl) ?_
  refine mg_0 S hw d_m_write_8 ?_
  refine lv_iload_n hx hb d_m_write_11 rfl (lv_at hl 1 rfl) ?_
  refine lv_iload_n hx hb d_m_write_12 rfl (lv_at hl 3 rfl) ?_
  refine ms_1 S hw d_m_write_13 (by omega) (fun H locs hw => ?_)
  refine lv_aload_n hx hb d_m_write_14 rfl (lv_at hl 0 rfl) ?_
  refine mg_2 S hw d_m_write_15 ?_
  refine lv_iload_n hx hb d_m_write_18 rfl (lv_at hl 1 rfl) ?_
  refine lv_dup2_11 hx hb d_m_write_19 rfl rfl ?_
  refine ml_3 S hw d_m_write_20 (by omega) ?_
  refine lv_iconst (v := nI 1) hx hb d_m_write_21 (by decide) ?_
  refine lv_iadd hx hb d_m_write_22 ?_
  refine ms_3 S hw d_m_write_23 (by omega) (fun H locs hw => ?_)
  exact r_vret S hr hlk hw d_m_write_24 (rfl)

set_option maxHeartbeats 4000000 in
set_option maxRecDepth 100000 in
theorem c_m_put (l : Launch) (cx : Int32) (k : Int32) (v : Int32) (M : Nat) (U : Nat) (T : Tr) (cn : Nat → Nat) (hM : okM M) (hcn : ∀ k, k < 16 → cn k < 2 ^ 20) : rCi wm tm_ l y_m_put w_m_put 4 86 [.int (cx), .int (k), .int (v)] (MR M U T cn) (mputP M U T cn cx k v) := by
  refine rCi.mk (b := b_m_put) (nL := 6) (rt := .int) R_md (by decide) rfl (Nat.le_of_ble_eq_true rfl) ?_
  intro D ad cs σ0 hmr p e s mi args below meth c A S hr hlk hw ls hl
  have hx := S.1
  have hb := S.2.1
  have hts := S.2.2.2.2
  have hown := S.2.2.2.1
  have hl : lv_has ls 6 [(0, .ref (ad 0)), (1, .int (cx)), (2, .int (k)), (3, .int (v))] := hl
  refine lv_aload_n hx hb d_m_put_0 rfl (lv_at hl 0 rfl) ?_
  refine lv_iload_n hx hb d_m_put_1 rfl (lv_at hl 1 rfl) ?_
  refine lv_iload_n hx hb d_m_put_2 rfl (lv_at hl 2 rfl) ?_
  refine lv_iload_n hx hb d_m_put_3 rfl (lv_at hl 3 rfl) ?_
  refine r_calli (rest := []) S hw k_m_m_hindrance (c_m_hindrance l (cx) (k) (v) M U hM) (⟨hmr.1, hmr.2.1⟩) rfl rfl ⟨by decide, by decide⟩ rfl hl.1 rfl (Nat.le_of_ble_eq_true rfl) ⟨Nat.le_refl _, Nat.le_refl _⟩ d_m_put_4 (fun r1 σ1 H locs hq1 hw => ?_)
  obtain ⟨es1, er1⟩ := hq1
  rw [es1] at hw
  refine ln_top er1 ?_
  refine lv_istore (lv' := [(4, .int (hinF U (cx) (k) (v))), (0, .ref (ad 0)), (1, .int (cx)), (2, .int (k)), (3, .int (v))]) hx hb d_m_put_7 hl (by decide) rfl (fun ls hl => ?_)
  refine lv_iload hx hb d_m_put_9 (lv_at hl 0 rfl) ?_
  refine lv_if_ge (tgt := 17) hx hb d_m_put_11 (by decide) (fun c_11 => ?_) (fun c_11 => ?_)
  · obtain ⟨hA, hmm⟩ := hin_ge c_11
    obtain ⟨cj, hcj, ecj, hbc⟩ := mem_of hmm
    subst ecj
    obtain ⟨kj, hkj, ekj⟩ := inM_of hA.2.1 (by decide)
    subst ekj
    have hck := hcn kj hkj
    refine lv_aload_n hx hb d_m_put_17 rfl (lv_at hl 1 rfl) ?_
    refine lv_iload_n hx hb d_m_put_18 rfl (lv_at hl 3 rfl) ?_
    refine r_calli (rest := []) S hw k_m_m_found (c_m_found l kj (by omega)) (trivial) rfl rfl ⟨by decide, by decide⟩ rfl hl.1 rfl (Nat.le_of_ble_eq_true rfl) ⟨Nat.le_refl _, Nat.le_refl _⟩ d_m_put_19 (fun r2 σ2 H locs hq2 hw => ?_)
    obtain ⟨es2, er2⟩ := hq2
    rw [es2] at hw
    refine ln_top (er2.trans (hmr.2.2.2 kj (by omega)).1) ?_
    refine lv_istore (lv' := [(5, .int (num T kj)), (4, .int (hinF U (nI cj) (nI kj) (v))), (0, .ref (ad 0)), (1, .int (nI cj)), (2, .int (nI kj)), (3, .int (v))]) hx hb d_m_put_22 hl (by decide) rfl (fun ls hl => ?_)
    refine lv_aload_n hx hb d_m_put_24 rfl (lv_at hl 2 rfl) ?_
    refine lv_iload_n hx hb d_m_put_25 rfl (lv_at hl 4 rfl) ?_
    refine lv_iconst (v := nI 1) hx hb d_m_put_26 (by decide) ?_
    refine lv_iload_n hx hb d_m_put_27 rfl (lv_at hl 5 rfl) ?_
    refine r_callv (rest := []) S hw k_m_m_write (c_m_write l kj (nI 1) (v) (by omega) (isB_n1)) (trivial) rfl rfl ⟨by decide, by decide⟩ rfl hl.1 rfl (Nat.le_of_ble_eq_true rfl) ⟨Nat.le_refl _, Nat.le_refl _⟩ d_m_put_28 (fun σ3 H locs hq3 hw => ?_)
    rw [hq3] at hw
    refine lv_iload hx hb d_m_put_31 (lv_at hl 0 rfl) ?_
    exact r_iret S hr hlk hw d_m_put_33 (⟨fun h => absurd hA h, fun _ h => absurd hmm h, fun c2 k2 h1 h2 e1 e2 h3 h4 => by
          have e1 := (nI_eq (by omega) (by omega)).mp e1
          have e2 := (nI_eq (by omega) (by omega)).mp e2
          subst e1 e2
          exact ⟨rfl, hmr.write isB_n1 (Or.inr h3) (nmF_put (by omega) (by omega)) (by omega)⟩⟩)
  · refine lv_iload hx hb d_m_put_14 (lv_at hl 0 rfl) ?_
    exact r_iret S hr hlk hw d_m_put_16 (⟨fun h => ⟨hin_bad h, rfl⟩, fun h h2 => ⟨hin_ref h h2, rfl⟩, fun c2 k2 h1 h2 e1 e2 h3 h4 => absurd (by subst e1 e2; exact hin_ok (okA_of h1 h2 h3) ((mem_nI h1).mpr h4)) c_11⟩)

set_option maxHeartbeats 4000000 in
set_option maxRecDepth 100000 in
theorem c_m_get (l : Launch) (cx : Int32) (k : Int32) (M : Nat) (U : Nat) (T : Tr) (cn : Nat → Nat) (hM : okM M) (hcn : ∀ k, k < 16 → cn k < 2 ^ 20) : rCi wm tm_ l y_m_get w_m_get 4 86 [.int (cx), .int (k)] (MR M U T cn) (mgetP U T cx k) := by
  refine rCi.mk (b := b_m_get) (nL := 4) (rt := .int) R_md (by decide) rfl (Nat.le_of_ble_eq_true rfl) ?_
  intro D ad cs σ0 hmr p e s mi args below meth c A S hr hlk hw ls hl
  have hx := S.1
  have hb := S.2.1
  have hts := S.2.2.2.2
  have hown := S.2.2.2.1
  have hl : lv_has ls 4 [(0, .ref (ad 0)), (1, .int (cx)), (2, .int (k))] := hl
  refine lv_aload_n hx hb d_m_get_0 rfl (lv_at hl 0 rfl) ?_
  refine lv_iload_n hx hb d_m_get_1 rfl (lv_at hl 1 rfl) ?_
  refine lv_iload_n hx hb d_m_get_2 rfl (lv_at hl 2 rfl) ?_
  refine lv_iconst (v := nI 0) hx hb d_m_get_3 (by decide) ?_
  refine r_calli (rest := []) S hw k_m_m_hindrance (c_m_hindrance l (cx) (k) (nI 0) M U hM) (⟨hmr.1, hmr.2.1⟩) rfl rfl ⟨by decide, by decide⟩ rfl hl.1 rfl (Nat.le_of_ble_eq_true rfl) ⟨Nat.le_refl _, Nat.le_refl _⟩ d_m_get_4 (fun r1 σ1 H locs hq1 hw => ?_)
  obtain ⟨es1, er1⟩ := hq1
  rw [es1] at hw
  refine ln_top er1 ?_
  refine lv_istore_n (lv' := [(3, .int (hinF U (cx) (k) (nI 0))), (0, .ref (ad 0)), (1, .int (cx)), (2, .int (k))]) hx hb d_m_get_7 rfl hl (by decide) rfl (fun ls hl => ?_)
  refine lv_iload_n hx hb d_m_get_8 rfl (lv_at hl 0 rfl) ?_
  refine lv_if_ge (tgt := 16) hx hb d_m_get_9 (by decide) (fun c_9 => ?_) (fun c_9 => ?_)
  · obtain ⟨hA, hmm⟩ := hin_ge c_9
    obtain ⟨cj, hcj, ecj, hbc⟩ := mem_of hmm
    subst ecj
    obtain ⟨kj, hkj, ekj⟩ := inM_of hA.2.1 (by decide)
    subst ekj
    have hck := hcn kj hkj
    refine lv_aload_n hx hb d_m_get_16 rfl (lv_at hl 1 rfl) ?_
    refine lv_iload_n hx hb d_m_get_17 rfl (lv_at hl 3 rfl) ?_
    refine r_calli (rest := []) S hw k_m_m_found (c_m_found l kj (by omega)) (trivial) rfl rfl ⟨by decide, by decide⟩ rfl hl.1 rfl (Nat.le_of_ble_eq_true rfl) ⟨Nat.le_refl _, Nat.le_refl _⟩ d_m_get_18 (fun r2 σ2 H locs hq2 hw => ?_)
    obtain ⟨es2, er2⟩ := hq2
    rw [es2] at hw
    refine ln_top (er2.trans (hmr.2.2.2 kj (by omega)).1) ?_
    exact r_iret S hr hlk hw d_m_get_21 (⟨rfl, fun h => absurd ⟨hA.1, hA.2.1⟩ h, fun _ h => absurd hmm h, fun c2 k2 h1 h2 e1 e2 h4 => by
          have e2 := (nI_eq (by omega) (by omega)).mp e2
          subst e2
          rfl⟩)
  · refine lv_iload_n hx hb d_m_get_12 rfl (lv_at hl 0 rfl) ?_
    refine lv_goto (tgt := 21) hx hb d_m_get_13 (by decide) ?_
    exact r_iret S hr hlk hw d_m_get_21 (⟨rfl, fun h => hin_bad (fun q => h ⟨q.1, q.2.1⟩), fun h h2 => hin_ref ⟨h.1, h.2, isNum_0⟩ h2, fun c2 k2 h1 h2 e1 e2 h4 => absurd (by subst e1 e2; exact hin_ok (okA_of h1 h2 isNum_0) ((mem_nI h1).mpr h4)) c_9⟩)

set_option maxHeartbeats 4000000 in
set_option maxRecDepth 100000 in
theorem c_m_remove (l : Launch) (cx : Int32) (k : Int32) (M : Nat) (U : Nat) (T : Tr) (cn : Nat → Nat) (hM : okM M) (hcn : ∀ k, k < 16 → cn k < 2 ^ 20) : rCi wm tm_ l y_m_remove w_m_remove 4 86 [.int (cx), .int (k)] (MR M U T cn) (mremP M U T cn cx k) := by
  refine rCi.mk (b := b_m_remove) (nL := 5) (rt := .int) R_md (by decide) rfl (Nat.le_of_ble_eq_true rfl) ?_
  intro D ad cs σ0 hmr p e s mi args below meth c A S hr hlk hw ls hl
  have hx := S.1
  have hb := S.2.1
  have hts := S.2.2.2.2
  have hown := S.2.2.2.1
  have hl : lv_has ls 5 [(0, .ref (ad 0)), (1, .int (cx)), (2, .int (k))] := hl
  refine lv_aload_n hx hb d_m_remove_0 rfl (lv_at hl 0 rfl) ?_
  refine lv_iload_n hx hb d_m_remove_1 rfl (lv_at hl 1 rfl) ?_
  refine lv_iload_n hx hb d_m_remove_2 rfl (lv_at hl 2 rfl) ?_
  refine lv_iconst (v := nI 0) hx hb d_m_remove_3 (by decide) ?_
  refine r_calli (rest := []) S hw k_m_m_hindrance (c_m_hindrance l (cx) (k) (nI 0) M U hM) (⟨hmr.1, hmr.2.1⟩) rfl rfl ⟨by decide, by decide⟩ rfl hl.1 rfl (Nat.le_of_ble_eq_true rfl) ⟨Nat.le_refl _, Nat.le_refl _⟩ d_m_remove_4 (fun r1 σ1 H locs hq1 hw => ?_)
  obtain ⟨es1, er1⟩ := hq1
  rw [es1] at hw
  refine ln_top er1 ?_
  refine lv_istore_n (lv' := [(3, .int (hinF U (cx) (k) (nI 0))), (0, .ref (ad 0)), (1, .int (cx)), (2, .int (k))]) hx hb d_m_remove_7 rfl hl (by decide) rfl (fun ls hl => ?_)
  refine lv_iload_n hx hb d_m_remove_8 rfl (lv_at hl 0 rfl) ?_
  refine lv_if_ge (tgt := 14) hx hb d_m_remove_9 (by decide) (fun c_9 => ?_) (fun c_9 => ?_)
  · obtain ⟨hA, hmm⟩ := hin_ge c_9
    obtain ⟨cj, hcj, ecj, hbc⟩ := mem_of hmm
    subst ecj
    obtain ⟨kj, hkj, ekj⟩ := inM_of hA.2.1 (by decide)
    subst ekj
    have hck := hcn kj hkj
    refine lv_aload_n hx hb d_m_remove_14 rfl (lv_at hl 1 rfl) ?_
    refine lv_iload_n hx hb d_m_remove_15 rfl (lv_at hl 3 rfl) ?_
    refine r_calli (rest := []) S hw k_m_m_found (c_m_found l kj (by omega)) (trivial) rfl rfl ⟨by decide, by decide⟩ rfl hl.1 rfl (Nat.le_of_ble_eq_true rfl) ⟨Nat.le_refl _, Nat.le_refl _⟩ d_m_remove_16 (fun r2 σ2 H locs hq2 hw => ?_)
    obtain ⟨es2, er2⟩ := hq2
    rw [es2] at hw
    refine ln_top (er2.trans (hmr.2.2.2 kj (by omega)).1) ?_
    refine lv_istore (lv' := [(4, .int (num T kj)), (3, .int (hinF U (nI cj) (nI kj) (nI 0))), (0, .ref (ad 0)), (1, .int (nI cj)), (2, .int (nI kj))]) hx hb d_m_remove_19 hl (by decide) rfl (fun ls hl => ?_)
    refine lv_aload_n hx hb d_m_remove_21 rfl (lv_at hl 2 rfl) ?_
    refine lv_iload_n hx hb d_m_remove_22 rfl (lv_at hl 4 rfl) ?_
    refine lv_iconst (v := nI 0) hx hb d_m_remove_23 (by decide) ?_
    refine lv_iconst (v := nI 0) hx hb d_m_remove_24 (by decide) ?_
    refine r_callv (rest := []) S hw k_m_m_write (c_m_write l kj (nI 0) (nI 0) (by omega) (isB_n0)) (trivial) rfl rfl ⟨by decide, by decide⟩ rfl hl.1 rfl (Nat.le_of_ble_eq_true rfl) ⟨Nat.le_refl _, Nat.le_refl _⟩ d_m_remove_25 (fun σ3 H locs hq3 hw => ?_)
    rw [hq3] at hw
    refine lv_iload hx hb d_m_remove_28 (lv_at hl 0 rfl) ?_
    exact r_iret S hr hlk hw d_m_remove_30 (⟨fun h => absurd ⟨hA.1, hA.2.1⟩ h, fun _ h => absurd hmm h, fun c2 k2 h1 h2 e1 e2 h4 => by
          have e1 := (nI_eq (by omega) (by omega)).mp e1
          have e2 := (nI_eq (by omega) (by omega)).mp e2
          subst e1 e2
          exact ⟨rfl, hmr.write isB_n0 (Or.inl rfl) nmF_rem (by omega)⟩⟩)
  · refine lv_iload_n hx hb d_m_remove_12 rfl (lv_at hl 0 rfl) ?_
    exact r_iret S hr hlk hw d_m_remove_13 (⟨fun h => ⟨hin_bad (fun q => h ⟨q.1, q.2.1⟩), rfl⟩, fun h h2 => ⟨hin_ref ⟨h.1, h.2, isNum_0⟩ h2, rfl⟩, fun c2 k2 h1 h2 e1 e2 h4 => absurd (by subst e1 e2; exact hin_ok (okA_of h1 h2 isNum_0) ((mem_nI h1).mpr h4)) c_9⟩)

set_option maxHeartbeats 4000000 in
set_option maxRecDepth 100000 in
theorem c_m_add (l : Launch) (cx : Int32) (k : Int32) (d : Int32) (M : Nat) (U : Nat) (T : Tr) (cn : Nat → Nat) (hM : okM M) (hcn : ∀ k, k < 16 → cn k < 2 ^ 20) : rCi wm tm_ l y_m_add w_m_add 4 86 [.int (cx), .int (k), .int (d)] (MR M U T cn) (maddP M U T cn cx k d) := by
  refine rCi.mk (b := b_m_add) (nL := 6) (rt := .int) R_md (by decide) rfl (Nat.le_of_ble_eq_true rfl) ?_
  intro D ad cs σ0 hmr p e s mi args below meth c A S hr hlk hw ls hl
  have hx := S.1
  have hb := S.2.1
  have hts := S.2.2.2.2
  have hown := S.2.2.2.1
  have hl : lv_has ls 6 [(0, .ref (ad 0)), (1, .int (cx)), (2, .int (k)), (3, .int (d))] := hl
  refine lv_aload_n hx hb d_m_add_0 rfl (lv_at hl 0 rfl) ?_
  refine lv_iload_n hx hb d_m_add_1 rfl (lv_at hl 1 rfl) ?_
  refine lv_iload_n hx hb d_m_add_2 rfl (lv_at hl 2 rfl) ?_
  refine lv_iload_n hx hb d_m_add_3 rfl (lv_at hl 3 rfl) ?_
  refine r_calli (rest := []) S hw k_m_m_hindrance (c_m_hindrance l (cx) (k) (d) M U hM) (⟨hmr.1, hmr.2.1⟩) rfl rfl ⟨by decide, by decide⟩ rfl hl.1 rfl (Nat.le_of_ble_eq_true rfl) ⟨Nat.le_refl _, Nat.le_refl _⟩ d_m_add_4 (fun r1 σ1 H locs hq1 hw => ?_)
  obtain ⟨es1, er1⟩ := hq1
  rw [es1] at hw
  refine ln_top er1 ?_
  refine lv_istore (lv' := [(4, .int (hinF U (cx) (k) (d))), (0, .ref (ad 0)), (1, .int (cx)), (2, .int (k)), (3, .int (d))]) hx hb d_m_add_7 hl (by decide) rfl (fun ls hl => ?_)
  refine lv_iload hx hb d_m_add_9 (lv_at hl 0 rfl) ?_
  refine lv_if_ge (tgt := 17) hx hb d_m_add_11 (by decide) (fun c_11 => ?_) (fun c_11 => ?_)
  · obtain ⟨hA, hmm⟩ := hin_ge c_11
    obtain ⟨cj, hcj, ecj, hbc⟩ := mem_of hmm
    subst ecj
    obtain ⟨kj, hkj, ekj⟩ := inM_of hA.2.1 (by decide)
    subst ekj
    have hck := hcn kj hkj
    refine lv_aload_n hx hb d_m_add_17 rfl (lv_at hl 1 rfl) ?_
    refine mg_1 S hw d_m_add_18 ?_
    refine lv_iload_n hx hb d_m_add_21 rfl (lv_at hl 3 rfl) ?_
    refine ml_2 S hw d_m_add_22 (by omega) ?_
    refine lv_if_eq (tgt := 37) hx hb d_m_add_23 (by decide) (fun c_23 => ?_) (fun c_23 => ?_)
    · refine lv_iload_n hx hb d_m_add_37 rfl (lv_at hl 4 rfl) ?_
      refine ln_top (y := sumN T kj d) (by unfold sumN; first | rw [if_pos ((hmr.none hkj).mp c_23)] | rw [if_neg (fun h => c_23 ((hmr.none hkj).mpr h)), hmr.val hkj c_23]) ?_
      refine lv_istore (lv' := [(5, .int (sumN T kj d)), (4, .int (hinF U (nI cj) (nI kj) (d))), (0, .ref (ad 0)), (1, .int (nI cj)), (2, .int (nI kj)), (3, .int (d))]) hx hb d_m_add_38 hl (by decide) rfl (fun ls hl => ?_)
      refine lv_aload_n hx hb d_m_add_40 rfl (lv_at hl 2 rfl) ?_
      refine lv_iload hx hb d_m_add_41 (lv_at hl 0 rfl) ?_
      refine r_calli (rest := []) S hw k_m_m_fits (c_m_fits l (sumN T kj d)) (trivial) rfl rfl ⟨by decide, by decide⟩ rfl hl.1 rfl (Nat.le_of_ble_eq_true rfl) ⟨Nat.le_refl _, Nat.le_refl _⟩ d_m_add_43 (fun r2 σ2 H locs hq2 hw => ?_)
      obtain ⟨es2, er2⟩ := hq2
      rw [es2] at hw
      refine ln_top (er2) ?_
      refine lb_if_ne (tgt := 52) hx hb d_m_add_46 (by decide) (fun c_46 => ?_) (fun c_46 => ?_)
      · refine lv_aload_n hx hb d_m_add_52 rfl (lv_at hl 2 rfl) ?_
        refine lv_iload_n hx hb d_m_add_53 rfl (lv_at hl 4 rfl) ?_
        refine lv_iconst (v := nI 1) hx hb d_m_add_54 (by decide) ?_
        refine lv_iload hx hb d_m_add_55 (lv_at hl 0 rfl) ?_
        refine r_callv (rest := []) S hw k_m_m_write (c_m_write l kj (nI 1) (sumN T kj d) (by omega) (isB_n1)) (trivial) rfl rfl ⟨by decide, by decide⟩ rfl hl.1 rfl (Nat.le_of_ble_eq_true rfl) ⟨Nat.le_refl _, Nat.le_refl _⟩ d_m_add_57 (fun σ3 H locs hq3 hw => ?_)
        rw [hq3] at hw
        refine lv_iload hx hb d_m_add_60 (lv_at hl 0 rfl) ?_
        exact r_iret S hr hlk hw d_m_add_62 (⟨fun h => absurd hA h, fun _ h => absurd hmm h, fun c2 k2 h1 h2 e1 e2 h3 h4 => by
              have e1 := (nI_eq (by omega) (by omega)).mp e1
              have e2 := (nI_eq (by omega) (by omega)).mp e2
              subst e1 e2
              exact ⟨fun h => absurd c_46 h, fun h => ⟨rfl, hmr.write isB_n1 (Or.inr h) (nmF_put (by omega) (by omega)) (by omega)⟩⟩⟩)
      · refine lv_ldc (v := (-300000)) hx hb hown (hts _ q_const_m_45) d_m_add_49 ?_
        exact r_iret S hr hlk hw d_m_add_51 (⟨fun h => absurd hA h, fun _ h => absurd hmm h, fun c2 k2 h1 h2 e1 e2 h3 h4 => by
              have e1 := (nI_eq (by omega) (by omega)).mp e1
              have e2 := (nI_eq (by omega) (by omega)).mp e2
              subst e1 e2
              exact ⟨fun _ => ⟨rfl, rfl⟩, fun h => absurd h c_46⟩⟩)
    · refine lv_aload_n hx hb d_m_add_26 rfl (lv_at hl 1 rfl) ?_
      refine mg_0 S hw d_m_add_27 ?_
      refine lv_iload_n hx hb d_m_add_30 rfl (lv_at hl 3 rfl) ?_
      refine ml_1 S hw d_m_add_31 (by omega) ?_
      refine lv_iload_n hx hb d_m_add_32 rfl (lv_at hl 4 rfl) ?_
      refine lv_iadd hx hb d_m_add_33 ?_
      refine lv_goto (tgt := 38) hx hb d_m_add_34 (by decide) ?_
      refine ln_top (y := sumN T kj d) (by unfold sumN; first | rw [if_pos ((hmr.none hkj).mp c_23)] | rw [if_neg (fun h => c_23 ((hmr.none hkj).mpr h)), hmr.val hkj c_23]) ?_
      refine lv_istore (lv' := [(5, .int (sumN T kj d)), (4, .int (hinF U (nI cj) (nI kj) (d))), (0, .ref (ad 0)), (1, .int (nI cj)), (2, .int (nI kj)), (3, .int (d))]) hx hb d_m_add_38 hl (by decide) rfl (fun ls hl => ?_)
      refine lv_aload_n hx hb d_m_add_40 rfl (lv_at hl 2 rfl) ?_
      refine lv_iload hx hb d_m_add_41 (lv_at hl 0 rfl) ?_
      refine r_calli (rest := []) S hw k_m_m_fits (c_m_fits l (sumN T kj d)) (trivial) rfl rfl ⟨by decide, by decide⟩ rfl hl.1 rfl (Nat.le_of_ble_eq_true rfl) ⟨Nat.le_refl _, Nat.le_refl _⟩ d_m_add_43 (fun r4 σ4 H locs hq4 hw => ?_)
      obtain ⟨es4, er4⟩ := hq4
      rw [es4] at hw
      refine ln_top (er4) ?_
      refine lb_if_ne (tgt := 52) hx hb d_m_add_46 (by decide) (fun c_46 => ?_) (fun c_46 => ?_)
      · refine lv_aload_n hx hb d_m_add_52 rfl (lv_at hl 2 rfl) ?_
        refine lv_iload_n hx hb d_m_add_53 rfl (lv_at hl 4 rfl) ?_
        refine lv_iconst (v := nI 1) hx hb d_m_add_54 (by decide) ?_
        refine lv_iload hx hb d_m_add_55 (lv_at hl 0 rfl) ?_
        refine r_callv (rest := []) S hw k_m_m_write (c_m_write l kj (nI 1) (sumN T kj d) (by omega) (isB_n1)) (trivial) rfl rfl ⟨by decide, by decide⟩ rfl hl.1 rfl (Nat.le_of_ble_eq_true rfl) ⟨Nat.le_refl _, Nat.le_refl _⟩ d_m_add_57 (fun σ5 H locs hq5 hw => ?_)
        rw [hq5] at hw
        refine lv_iload hx hb d_m_add_60 (lv_at hl 0 rfl) ?_
        exact r_iret S hr hlk hw d_m_add_62 (⟨fun h => absurd hA h, fun _ h => absurd hmm h, fun c2 k2 h1 h2 e1 e2 h3 h4 => by
              have e1 := (nI_eq (by omega) (by omega)).mp e1
              have e2 := (nI_eq (by omega) (by omega)).mp e2
              subst e1 e2
              exact ⟨fun h => absurd c_46 h, fun h => ⟨rfl, hmr.write isB_n1 (Or.inr h) (nmF_put (by omega) (by omega)) (by omega)⟩⟩⟩)
      · refine lv_ldc (v := (-300000)) hx hb hown (hts _ q_const_m_45) d_m_add_49 ?_
        exact r_iret S hr hlk hw d_m_add_51 (⟨fun h => absurd hA h, fun _ h => absurd hmm h, fun c2 k2 h1 h2 e1 e2 h3 h4 => by
              have e1 := (nI_eq (by omega) (by omega)).mp e1
              have e2 := (nI_eq (by omega) (by omega)).mp e2
              subst e1 e2
              exact ⟨fun _ => ⟨rfl, rfl⟩, fun h => absurd h c_46⟩⟩)
  · refine lv_iload hx hb d_m_add_14 (lv_at hl 0 rfl) ?_
    exact r_iret S hr hlk hw d_m_add_16 (⟨fun h => ⟨hin_bad h, rfl⟩, fun h h2 => ⟨hin_ref h h2, rfl⟩, fun c2 k2 h1 h2 e1 e2 h3 h4 => absurd (by subst e1 e2; exact hin_ok (okA_of h1 h2 h3) ((mem_nI h1).mpr h4)) c_11⟩)
end
section
def mdnP (M U : Nat) (T : Tr) (cn : Nat → Nat) (m : Int32) (μ : St) (r : Int32) (μ' : St) : Prop :=
  (¬ (mem U m ∧ U = M) → r = nI 0 ∧ μ' = μ) ∧ ∀ mj, mj < 6 → m = nI mj → M.testBit mj = true → U = M → r = nI 1 ∧ MR M (M ^^^ 2 ^ mj) T cn μ'
def mupP (M U : Nat) (T : Tr) (cn : Nat → Nat) (m : Int32) (μ : St) (r : Int32) (μ' : St) : Prop :=
  (¬ (mem M m ∧ ¬ mem U m) → r = nI 0 ∧ μ' = μ) ∧ ∀ mj, mj < 6 → m = nI mj → M.testBit mj = true → ¬ U.testBit mj = true → r = nI 1 ∧ MR M M T cn μ'
def mjoP (M U : Nat) (T : Tr) (cn : Nat → Nat) (m : Int32) (μ : St) (r : Int32) (μ' : St) : Prop :=
  (¬ inM m 6 → r = cBAD ∧ μ' = μ) ∧ (inM m 6 → ¬ (¬ mem M m ∧ U = M) → r = cREF ∧ μ' = μ) ∧
  ∀ mj, mj < 6 → m = nI mj → ¬ M.testBit mj = true → U = M → r = nI (cb (M ||| 2 ^ mj) 6) ∧ MR (M ||| 2 ^ mj) (M ||| 2 ^ mj) T cn μ'
def mleP (M U : Nat) (T : Tr) (cn : Nat → Nat) (m : Int32) (μ : St) (r : Int32) (μ' : St) : Prop :=
  (¬ inM m 6 → r = cBAD ∧ μ' = μ) ∧ (inM m 6 → ¬ (mem M m ∧ ¬ cb M 6 = 3 ∧ U = M) → r = cREF ∧ μ' = μ) ∧
  ∀ mj, mj < 6 → m = nI mj → M.testBit mj = true → ¬ cb M 6 = 3 → U = M → r = nI (cb (M ^^^ 2 ^ mj) 6) ∧ MR (M ^^^ 2 ^ mj) (M ^^^ 2 ^ mj) T cn μ'
theorem MR.idle {M U U' : Nat} {T : Tr} {cn : Nat → Nat} {μ : St} (h : MR M U T cn μ) {v : Int32} (hv : idR M U' v) : MR M U' T cn (up2 μ 0 4 v) := ⟨h.1, hv, h.2.2.1, h.2.2.2⟩
theorem MR.ring {M U N : Nat} {T : Tr} {cn : Nat → Nat} {μ : St} (h : MR M U T cn μ) (hv : idR N N (μ 0 4)) : MR N N T cn (up2 μ 0 3 (nI N)) := ⟨rfl, hv, h.2.2.1, h.2.2.2⟩
theorem idR_self {M U N : Nat} {v : Int32} (hM : okM M) (h : idR M U v) (e : U = M) : idR N N v := by
  rcases h with ⟨rfl, -⟩ | ⟨d, hd, -, hb, q⟩
  · exact Or.inl ⟨rfl, rfl⟩
  · exact absurd (q.symm.trans e) (xor_ne hM.1 hd hb)
theorem mem_U {M U mj : Nat} (hU : okW M U) (hmj : mj < 6) : mem U (nI mj) → M.testBit mj = true := fun h => hU.2.1 mj ((mem_nI hmj).mp h)

set_option maxHeartbeats 4000000 in
set_option maxRecDepth 100000 in
theorem c_m_down (l : Launch) (m : Int32) (M : Nat) (U : Nat) (T : Tr) (cn : Nat → Nat) (hM : okM M) : rCi wm tm_ l y_m_down w_m_down 3 63 [.int (m)] (MR M U T cn) (mdnP M U T cn m) := by
  refine rCi.mk (b := b_m_down) (nL := 2) (rt := .boolean) R_md (by decide) rfl (Nat.le_of_ble_eq_true rfl) ?_
  intro D ad cs σ0 hmr p e s mi args below meth c A S hr hlk hw ls hl
  have hx := S.1
  have hb := S.2.1
  have hts := S.2.2.2.2
  have hown := S.2.2.2.1
  have hl : lv_has ls 2 [(0, .ref (ad 0)), (1, .int (m))] := hl
  refine lv_aload_n hx hb d_m_down_0 rfl (lv_at hl 0 rfl) ?_
  refine lv_iload_n hx hb d_m_down_1 rfl (lv_at hl 1 rfl) ?_
  refine r_calli (rest := []) S hw k_m_m_works (c_m_works l (m) M U hM) (⟨hmr.1, hmr.2.1⟩) rfl rfl ⟨by decide, by decide⟩ rfl hl.1 rfl (Nat.le_of_ble_eq_true rfl) ⟨Nat.le_refl _, Nat.le_refl _⟩ d_m_down_2 (fun r1 σ1 H locs hq1 hw => ?_)
  obtain ⟨es1, er1⟩ := hq1
  rw [es1] at hw
  refine ln_top (er1) ?_
  refine lb_if_eq (tgt := 15) hx hb d_m_down_5 (by decide) (fun c_5 => ?_) (fun c_5 => ?_)
  · refine lv_iconst (v := nI 0) hx hb d_m_down_15 (by decide) ?_
    exact r_zret S hr hlk hw d_m_down_16 (isB_n0) (⟨fun _ => ⟨rfl, rfl⟩, fun mj h1 e h2 h3 => by
          subst e; first | exact absurd ((idR_neg hM hmr.2.1).mpr h3) c_12 | exact absurd (by rw [h3]; exact (mem_nI h1).mpr h2) c_5⟩)
  · refine lv_aload_n hx hb d_m_down_8 rfl (lv_at hl 0 rfl) ?_
    refine mg_4 S hw d_m_down_9 ?_
    refine lv_if_lt (tgt := 17) hx hb d_m_down_12 (by decide) (fun c_12 => ?_) (fun c_12 => ?_)
    · refine lv_aload_n hx hb d_m_down_17 rfl (lv_at hl 0 rfl) ?_
      refine lv_iload_n hx hb d_m_down_18 rfl (lv_at hl 1 rfl) ?_
      refine mp_4 S hw d_m_down_19 (fun H locs hw => ?_)
      refine lv_iconst (v := nI 1) hx hb d_m_down_22 (by decide) ?_
      exact r_zret S hr hlk hw d_m_down_23 (isB_n1) (⟨fun h => absurd ⟨c_5, (idR_neg hM hmr.2.1).mp c_12⟩ h, fun mj h1 e h2 h3 => by
            subst e; exact ⟨rfl, hmr.idle (Or.inr ⟨mj, h1, rfl, h2, rfl⟩)⟩⟩)
    · refine lv_iconst (v := nI 0) hx hb d_m_down_15 (by decide) ?_
      exact r_zret S hr hlk hw d_m_down_16 (isB_n0) (⟨fun _ => ⟨rfl, rfl⟩, fun mj h1 e h2 h3 => by
            subst e; first | exact absurd ((idR_neg hM hmr.2.1).mpr h3) c_12 | exact absurd (by rw [h3]; exact (mem_nI h1).mpr h2) c_5⟩)

set_option maxHeartbeats 4000000 in
set_option maxRecDepth 100000 in
theorem c_m_up (l : Launch) (m : Int32) (w : Int32) (M : Nat) (U : Nat) (T : Tr) (cn : Nat → Nat) (hM : okM M) : rCi wm tm_ l y_m_up w_m_up 2 42 [.int (m), .int (w)] (MR M U T cn) (mupP M U T cn m) := by
  refine rCi.mk (b := b_m_up) (nL := 3) (rt := .boolean) R_md (by decide) rfl (Nat.le_of_ble_eq_true rfl) ?_
  intro D ad cs σ0 hmr p e s mi args below meth c A S hr hlk hw ls hl
  have hx := S.1
  have hb := S.2.1
  have hts := S.2.2.2.2
  have hown := S.2.2.2.1
  have hl : lv_has ls 3 [(0, .ref (ad 0)), (1, .int (m)), (2, .int (w))] := hl
  refine lv_aload_n hx hb d_m_up_0 rfl (lv_at hl 0 rfl) ?_
  refine lv_iload_n hx hb d_m_up_1 rfl (lv_at hl 1 rfl) ?_
  refine r_calli (rest := []) S hw k_m_m_member (c_m_member l (m) M hM.1) (hmr.1) rfl rfl ⟨by decide, by decide⟩ rfl hl.1 rfl (Nat.le_of_ble_eq_true rfl) ⟨Nat.le_refl _, Nat.le_refl _⟩ d_m_up_2 (fun r1 σ1 H locs hq1 hw => ?_)
  obtain ⟨es1, er1⟩ := hq1
  rw [es1] at hw
  refine ln_top (er1) ?_
  refine lb_if_eq (tgt := 16) hx hb d_m_up_5 (by decide) (fun c_5 => ?_) (fun c_5 => ?_)
  · refine lv_iconst (v := nI 0) hx hb d_m_up_16 (by decide) ?_
    exact r_zret S hr hlk hw d_m_up_17 (isB_n0) (⟨fun _ => ⟨rfl, rfl⟩, fun mj h1 e h2 h3 => by
          subst e; first | exact absurd ((mem_nI h1).mp ((works_iff hM hmr.2.1).mpr ⟨(mem_nI h1).mpr h2, c_13⟩)) h3 | exact absurd ((mem_nI h1).mpr h2) c_5⟩)
  · refine lv_iload_n hx hb d_m_up_8 rfl (lv_at hl 1 rfl) ?_
    refine lv_aload_n hx hb d_m_up_9 rfl (lv_at hl 0 rfl) ?_
    refine mg_4 S hw d_m_up_10 ?_
    refine lv_icmp_eq (tgt := 18) hx hb d_m_up_13 (by decide) (fun c_13 => ?_) (fun c_13 => ?_)
    · refine lv_aload_n hx hb d_m_up_18 rfl (lv_at hl 0 rfl) ?_
      refine lv_iconst (v := (-1)) hx hb d_m_up_19 (by decide) ?_
      refine mp_4 S hw d_m_up_20 (fun H locs hw => ?_)
      refine lv_iconst (v := nI 1) hx hb d_m_up_23 (by decide) ?_
      exact r_zret S hr hlk hw d_m_up_24 (isB_n1) (⟨fun h => absurd ⟨c_5, fun q => ((works_iff hM hmr.2.1).mp q).2 c_13⟩ h, fun mj h1 e h2 h3 => ⟨rfl, hmr.idle (Or.inl ⟨rfl, rfl⟩)⟩⟩)
    · refine lv_iconst (v := nI 0) hx hb d_m_up_16 (by decide) ?_
      exact r_zret S hr hlk hw d_m_up_17 (isB_n0) (⟨fun _ => ⟨rfl, rfl⟩, fun mj h1 e h2 h3 => by
            subst e; first | exact absurd ((mem_nI h1).mp ((works_iff hM hmr.2.1).mpr ⟨(mem_nI h1).mpr h2, c_13⟩)) h3 | exact absurd ((mem_nI h1).mpr h2) c_5⟩)

set_option maxHeartbeats 4000000 in
set_option maxRecDepth 100000 in
theorem c_m_many (l : Launch) (x : Nat) (hx6 : x < 64) : rCi wm tm_ l y_m_many w_m_many 0 0 [] (fun σ => σ 0 3 = nI x) (fun σ r σ' => σ' = σ ∧ r = nI (cb x 6)) := by
  refine rCi.mk (b := b_m_many) (nL := 3) (rt := .int) R_md (by decide) rfl (Nat.le_of_ble_eq_true rfl) ?_
  intro D ad cs σ0 hpre p e s mi args below meth c A S hr hlk hw ls hl
  have hx := S.1
  have hb := S.2.1
  have hts := S.2.2.2.2
  have hown := S.2.2.2.1
  have hl : lv_has ls 3 [(0, .ref (ad 0))] := hl
  refine lv_iconst (v := nI 0) hx hb d_m_many_0 (by decide) ?_
  refine lv_istore_n (lv' := [(1, .int (nI 0)), (0, .ref (ad 0))]) hx hb d_m_many_1 rfl hl (by decide) rfl (fun ls hl => ?_)
  refine lv_iconst (v := nI 0) hx hb d_m_many_2 (by decide) ?_
  refine lv_istore_n (lv' := [(2, .int (nI 0)), (1, .int (nI 0)), (0, .ref (ad 0))]) hx hb d_m_many_3 rfl hl (by decide) rfl (fun ls hl => ?_)
  have L4 : ∀ (n : Nat) (i : Nat) (σ : St) (H : Heap) (locs : List Loc) (ls : Array Slot), i ≤ 6 → 7 ≤ i + n → σ = σ0 → rW wm tm_ D ad cs A s σ H locs → lv_has ls 3 [(0, .ref (ad 0)), (1, .int (nI (cb x i))), (2, .int (nI i))] → W p l e { frames := 0, cells := 0, slots := 0, locals := 0 } s mi args below meth c H locs 0 0 (MQ below (va_Qi ((fun σ r σ' => σ' = σ ∧ r = nI (cb x 6)) σ0) (rB wm tm_ D ad cs A) A) args s 0 0 A) (F0 mi 4 ls []) := by
    intro n
    induction n with
    | zero =>
      intro i σ H locs ls hi hn hw0 hw hl
      omega
    | succ n ih4 =>
      intro i σ H locs ls hi hn hw0 hw hl
      refine lv_iload_n hx hb d_m_many_4 rfl (lv_at hl 2 rfl) ?_
      refine lv_bipush (v := nI 6) hx hb d_m_many_5 (by decide) ?_
      refine ln_icmp_ge (tgt := 27) hx hb d_m_many_7 (by decide) (⟨by omega, by omega⟩) (fun c_7 => ?_) (fun c_7 => ?_)
      · refine lv_iload_n hx hb d_m_many_27 rfl (lv_at hl 1 rfl) ?_
        exact r_iret S hr hlk hw d_m_many_28 (⟨hw0, by rw [show i = 6 by omega]⟩)
      · refine lv_iload_n hx hb d_m_many_10 rfl (lv_at hl 1 rfl) ?_
        refine lv_aload_n hx hb d_m_many_11 rfl (lv_at hl 0 rfl) ?_
        refine mg_3 S hw d_m_many_12 ?_
        refine ln_top (show _ = nI x from by rw [hw0]; exact hpre) ?_
        refine lv_iload_n hx hb d_m_many_15 rfl (lv_at hl 2 rfl) ?_
        refine lv_ishr hx hb d_m_many_16 ?_
        refine lv_iconst (v := nI 1) hx hb d_m_many_17 (by decide) ?_
        refine lv_iand hx hb d_m_many_18 ?_
        refine lv_iadd hx hb d_m_many_19 ?_
        refine ln_top (cb6_nI hx6 (by omega)) ?_
        refine lv_istore_n (lv' := [(1, .int (nI (cb x (i + 1)))), (0, .ref (ad 0)), (2, .int (nI i))]) hx hb d_m_many_20 rfl hl (by decide) rfl (fun ls hl => ?_)
        refine ln_iinc (lv' := [(2, .int (nI (i + 1))), (1, .int (nI (cb x (i + 1)))), (0, .ref (ad 0))]) hx hb d_m_many_21 hl (k := 2) rfl rfl (by decide) rfl (fun ls hl => ?_)
        refine lv_goto (tgt := 4) hx hb d_m_many_24 (by decide) ?_
        exact ih4 (i + 1) σ _ _ _ (by omega) (by omega) hw0 hw (lv_sub hl [2, 1, 0] rfl)
  exact L4 7 (0) σ0 _ _ _ (by omega) (by omega) rfl hw (lv_sub hl [2, 1, 0] rfl)

set_option maxHeartbeats 4000000 in
set_option maxRecDepth 100000 in
theorem c_m_join (l : Launch) (m : Int32) (M : Nat) (U : Nat) (T : Tr) (cn : Nat → Nat) (hM : okM M) : rCi wm tm_ l y_m_join w_m_join 2 42 [.int (m)] (MR M U T cn) (mjoP M U T cn m) := by
  refine rCi.mk (b := b_m_join) (nL := 2) (rt := .int) R_md (by decide) rfl (Nat.le_of_ble_eq_true rfl) ?_
  intro D ad cs σ0 hmr p e s mi args below meth c A S hr hlk hw ls hl
  have hx := S.1
  have hb := S.2.1
  have hts := S.2.2.2.2
  have hown := S.2.2.2.1
  have hl : lv_has ls 2 [(0, .ref (ad 0)), (1, .int (m))] := hl
  have hcb := cb_le M 6
  refine lv_aload_n hx hb d_m_join_0 rfl (lv_at hl 0 rfl) ?_
  refine lv_iload_n hx hb d_m_join_1 rfl (lv_at hl 1 rfl) ?_
  refine r_calli (rest := []) S hw k_m_m_machine (c_m_machine l (m)) (trivial) rfl rfl ⟨by decide, by decide⟩ rfl hl.1 rfl (Nat.le_of_ble_eq_true rfl) ⟨Nat.le_refl _, Nat.le_refl _⟩ d_m_join_2 (fun r1 σ1 H locs hq1 hw => ?_)
  obtain ⟨es1, er1⟩ := hq1
  rw [es1] at hw
  refine ln_top (er1) ?_
  refine lb_if_ne (tgt := 11) hx hb d_m_join_5 (by decide) (fun c_5 => ?_) (fun c_5 => ?_)
  · refine lv_aload_n hx hb d_m_join_11 rfl (lv_at hl 0 rfl) ?_
    refine lv_iload_n hx hb d_m_join_12 rfl (lv_at hl 1 rfl) ?_
    refine r_calli (rest := []) S hw k_m_m_member (c_m_member l (m) M hM.1) (hmr.1) rfl rfl ⟨by decide, by decide⟩ rfl hl.1 rfl (Nat.le_of_ble_eq_true rfl) ⟨Nat.le_refl _, Nat.le_refl _⟩ d_m_join_13 (fun r2 σ2 H locs hq2 hw => ?_)
    obtain ⟨es2, er2⟩ := hq2
    rw [es2] at hw
    refine ln_top (er2) ?_
    refine lb_if_ne (tgt := 26) hx hb d_m_join_16 (by decide) (fun c_16 => ?_) (fun c_16 => ?_)
    · refine lv_ldc (v := (-300000)) hx hb hown (hts _ q_const_m_45) d_m_join_26 ?_
      exact r_iret S hr hlk hw d_m_join_28 (⟨fun h => absurd c_5 h, fun _ _ => ⟨rfl, rfl⟩, fun mj h1 e h2 h3 => by
            subst e; first | exact absurd ((idR_neg hM hmr.2.1).mpr h3) c_23 | exact absurd ((mem_nI h1).mp c_16) h2⟩)
    · refine lv_aload_n hx hb d_m_join_19 rfl (lv_at hl 0 rfl) ?_
      refine mg_4 S hw d_m_join_20 ?_
      refine lv_if_lt (tgt := 29) hx hb d_m_join_23 (by decide) (fun c_23 => ?_) (fun c_23 => ?_)
      · obtain ⟨mj, hmj, emj⟩ := inM_of c_5 (by decide)
        subst emj
        have ho6 := or6 M hM.1 mj hmj
        have hUM := (idR_neg hM hmr.2.1).mp c_23
        refine lv_aload_n hx hb d_m_join_29 rfl (lv_at hl 0 rfl) ?_
        refine lv_aload_n hx hb d_m_join_30 rfl (lv_at hl 0 rfl) ?_
        refine mg_3 S hw d_m_join_31 ?_
        refine ln_top (hmr.1) ?_
        refine lv_iconst (v := nI 1) hx hb d_m_join_34 (by decide) ?_
        refine lv_iload_n hx hb d_m_join_35 rfl (lv_at hl 1 rfl) ?_
        refine lv_ishl hx hb d_m_join_36 ?_
        refine lv_ior hx hb d_m_join_37 ?_
        refine ln_top ho6.1 ?_
        refine mp_3 S hw d_m_join_38 (fun H locs hw => ?_)
        refine lv_aload_n hx hb d_m_join_41 rfl (lv_at hl 0 rfl) ?_
        refine r_calli (rest := []) S hw k_m_m_many (c_m_many l (M ||| 2 ^ mj) (ho6.2.1)) (rfl) rfl rfl ⟨by decide, by decide⟩ rfl hl.1 rfl (Nat.le_of_ble_eq_true rfl) ⟨Nat.le_refl _, Nat.le_refl _⟩ d_m_join_42 (fun r3 σ3 H locs hq3 hw => ?_)
        obtain ⟨es3, er3⟩ := hq3
        rw [es3] at hw
        refine ln_top er3 ?_
        exact r_iret S hr hlk hw d_m_join_45 (⟨fun h => absurd c_5 h, fun _ h => absurd ⟨c_16, hUM⟩ h, fun m2 h1 e h2 h3 => by
              have e := (nI_eq (by omega) (by omega)).mp e
              subst e
              exact ⟨rfl, hmr.ring (idR_self hM hmr.2.1 h3)⟩⟩)
      · refine lv_ldc (v := (-300000)) hx hb hown (hts _ q_const_m_45) d_m_join_26 ?_
        exact r_iret S hr hlk hw d_m_join_28 (⟨fun h => absurd c_5 h, fun _ _ => ⟨rfl, rfl⟩, fun mj h1 e h2 h3 => by
              subst e; first | exact absurd ((idR_neg hM hmr.2.1).mpr h3) c_23 | exact absurd ((mem_nI h1).mp c_16) h2⟩)
  · refine lv_ldc (v := (-100000)) hx hb hown (hts _ q_const_m_41) d_m_join_8 ?_
    exact r_iret S hr hlk hw d_m_join_10 (⟨fun _ => ⟨rfl, rfl⟩, fun h => absurd h c_5, fun mj h1 e => absurd (by rw [e]; exact inM_nI h1 (by decide)) c_5⟩)

set_option maxHeartbeats 4000000 in
set_option maxRecDepth 100000 in
theorem c_m_leave (l : Launch) (m : Int32) (M : Nat) (U : Nat) (T : Tr) (cn : Nat → Nat) (hM : okM M) : rCi wm tm_ l y_m_leave w_m_leave 2 42 [.int (m)] (MR M U T cn) (mleP M U T cn m) := by
  refine rCi.mk (b := b_m_leave) (nL := 2) (rt := .int) R_md (by decide) rfl (Nat.le_of_ble_eq_true rfl) ?_
  intro D ad cs σ0 hmr p e s mi args below meth c A S hr hlk hw ls hl
  have hx := S.1
  have hb := S.2.1
  have hts := S.2.2.2.2
  have hown := S.2.2.2.1
  have hl : lv_has ls 2 [(0, .ref (ad 0)), (1, .int (m))] := hl
  have hcb := cb_le M 6
  refine lv_aload_n hx hb d_m_leave_0 rfl (lv_at hl 0 rfl) ?_
  refine lv_iload_n hx hb d_m_leave_1 rfl (lv_at hl 1 rfl) ?_
  refine r_calli (rest := []) S hw k_m_m_machine (c_m_machine l (m)) (trivial) rfl rfl ⟨by decide, by decide⟩ rfl hl.1 rfl (Nat.le_of_ble_eq_true rfl) ⟨Nat.le_refl _, Nat.le_refl _⟩ d_m_leave_2 (fun r1 σ1 H locs hq1 hw => ?_)
  obtain ⟨es1, er1⟩ := hq1
  rw [es1] at hw
  refine ln_top (er1) ?_
  refine lb_if_ne (tgt := 11) hx hb d_m_leave_5 (by decide) (fun c_5 => ?_) (fun c_5 => ?_)
  · refine lv_aload_n hx hb d_m_leave_11 rfl (lv_at hl 0 rfl) ?_
    refine lv_iload_n hx hb d_m_leave_12 rfl (lv_at hl 1 rfl) ?_
    refine r_calli (rest := []) S hw k_m_m_member (c_m_member l (m) M hM.1) (hmr.1) rfl rfl ⟨by decide, by decide⟩ rfl hl.1 rfl (Nat.le_of_ble_eq_true rfl) ⟨Nat.le_refl _, Nat.le_refl _⟩ d_m_leave_13 (fun r2 σ2 H locs hq2 hw => ?_)
    obtain ⟨es2, er2⟩ := hq2
    rw [es2] at hw
    refine ln_top (er2) ?_
    refine lb_if_eq (tgt := 34) hx hb d_m_leave_16 (by decide) (fun c_16 => ?_) (fun c_16 => ?_)
    · refine lv_ldc (v := (-300000)) hx hb hown (hts _ q_const_m_45) d_m_leave_34 ?_
      exact r_iret S hr hlk hw d_m_leave_36 (⟨fun h => absurd c_5 h, fun _ _ => ⟨rfl, rfl⟩, fun mj h1 e h2 h3 h4 => by
            subst e; first | exact absurd ((idR_neg hM hmr.2.1).mpr h4) c_31 | exact absurd c_24 h3 | exact absurd ((mem_nI h1).mpr h2) c_16⟩)
    · refine lv_aload_n hx hb d_m_leave_19 rfl (lv_at hl 0 rfl) ?_
      refine r_calli (rest := []) S hw k_m_m_many (c_m_many l M (hM.1)) (hmr.1) rfl rfl ⟨by decide, by decide⟩ rfl hl.1 rfl (Nat.le_of_ble_eq_true rfl) ⟨Nat.le_refl _, Nat.le_refl _⟩ d_m_leave_20 (fun r3 σ3 H locs hq3 hw => ?_)
      obtain ⟨es3, er3⟩ := hq3
      rw [es3] at hw
      refine ln_top er3 ?_
      refine lv_iconst (v := nI 3) hx hb d_m_leave_23 (by decide) ?_
      refine ln_icmp_eq (tgt := 34) hx hb d_m_leave_24 (by decide) (⟨by omega, by omega⟩) (fun c_24 => ?_) (fun c_24 => ?_)
      · refine lv_ldc (v := (-300000)) hx hb hown (hts _ q_const_m_45) d_m_leave_34 ?_
        exact r_iret S hr hlk hw d_m_leave_36 (⟨fun h => absurd c_5 h, fun _ _ => ⟨rfl, rfl⟩, fun mj h1 e h2 h3 h4 => by
              subst e; first | exact absurd ((idR_neg hM hmr.2.1).mpr h4) c_31 | exact absurd c_24 h3 | exact absurd ((mem_nI h1).mpr h2) c_16⟩)
      · refine lv_aload_n hx hb d_m_leave_27 rfl (lv_at hl 0 rfl) ?_
        refine mg_4 S hw d_m_leave_28 ?_
        refine lv_if_lt (tgt := 37) hx hb d_m_leave_31 (by decide) (fun c_31 => ?_) (fun c_31 => ?_)
        · obtain ⟨mj, hmj, emj, hbM⟩ := mem_of c_16
          subst emj
          have ho6 := and6 M hM.1 mj hmj hbM
          have hUM := (idR_neg hM hmr.2.1).mp c_31
          refine lv_aload_n hx hb d_m_leave_37 rfl (lv_at hl 0 rfl) ?_
          refine lv_aload_n hx hb d_m_leave_38 rfl (lv_at hl 0 rfl) ?_
          refine mg_3 S hw d_m_leave_39 ?_
          refine ln_top (hmr.1) ?_
          refine lv_iconst (v := nI 1) hx hb d_m_leave_42 (by decide) ?_
          refine lv_iload_n hx hb d_m_leave_43 rfl (lv_at hl 1 rfl) ?_
          refine lv_ishl hx hb d_m_leave_44 ?_
          refine lv_iconst (v := (-1)) hx hb d_m_leave_45 (by decide) ?_
          refine lv_ixor hx hb d_m_leave_46 ?_
          refine lv_iand hx hb d_m_leave_47 ?_
          refine ln_top ho6.1 ?_
          refine mp_3 S hw d_m_leave_48 (fun H locs hw => ?_)
          refine lv_aload_n hx hb d_m_leave_51 rfl (lv_at hl 0 rfl) ?_
          refine r_calli (rest := []) S hw k_m_m_many (c_m_many l (M ^^^ 2 ^ mj) (ho6.2.1)) (rfl) rfl rfl ⟨by decide, by decide⟩ rfl hl.1 rfl (Nat.le_of_ble_eq_true rfl) ⟨Nat.le_refl _, Nat.le_refl _⟩ d_m_leave_52 (fun r4 σ4 H locs hq4 hw => ?_)
          obtain ⟨es4, er4⟩ := hq4
          rw [es4] at hw
          refine ln_top er4 ?_
          exact r_iret S hr hlk hw d_m_leave_55 (⟨fun h => absurd c_5 h, fun _ h => absurd ⟨c_16, c_24, hUM⟩ h, fun m2 h1 e h2 h3 h4 => by
                have e := (nI_eq (by omega) (by omega)).mp e
                subst e
                exact ⟨rfl, hmr.ring (idR_self hM hmr.2.1 h4)⟩⟩)
        · refine lv_ldc (v := (-300000)) hx hb hown (hts _ q_const_m_45) d_m_leave_34 ?_
          exact r_iret S hr hlk hw d_m_leave_36 (⟨fun h => absurd c_5 h, fun _ _ => ⟨rfl, rfl⟩, fun mj h1 e h2 h3 h4 => by
                subst e; first | exact absurd ((idR_neg hM hmr.2.1).mpr h4) c_31 | exact absurd c_24 h3 | exact absurd ((mem_nI h1).mpr h2) c_16⟩)
  · refine lv_ldc (v := (-100000)) hx hb hown (hts _ q_const_m_41) d_m_leave_8 ?_
    exact r_iret S hr hlk hw d_m_leave_10 (⟨fun _ => ⟨rfl, rfl⟩, fun h => absurd h c_5, fun mj h1 e => absurd (by rw [e]; exact inM_nI h1 (by decide)) c_5⟩)

set_option maxHeartbeats 4000000 in
set_option maxRecDepth 100000 in
theorem c_m_lose (l : Launch) (n0 : Int32)  : rCi wm tm_ l y_m_lose w_m_lose 0 0 [.int (n0)] (fun _ => True) (fun σ r σ' => σ' = σ ∧ r = bI (¬ n0 < 0 ∧ ¬ nI 30 < n0)) := by
  refine rCi.mk (b := b_m_lose) (nL := 2) (rt := .boolean) R_md (by decide) rfl (Nat.le_of_ble_eq_true rfl) ?_
  intro D ad cs σ0 hpre p e s mi args below meth c A S hr hlk hw ls hl
  have hx := S.1
  have hb := S.2.1
  have hts := S.2.2.2.2
  have hown := S.2.2.2.1
  have hl : lv_has ls 2 [(0, .ref (ad 0)), (1, .int (n0))] := hl
  refine lv_iload_n hx hb d_m_lose_0 rfl (lv_at hl 1 rfl) ?_
  refine lv_if_lt (tgt := 14) hx hb d_m_lose_1 (by decide) (fun c_1 => ?_) (fun c_1 => ?_)
  · refine lv_iconst (v := nI 0) hx hb d_m_lose_14 (by decide) ?_
    exact r_zret S hr hlk hw d_m_lose_15 (isB_n0) (⟨rfl, bI_f (fun h => by first | exact h.1 c_1 | exact h.2 c_7)⟩)
  · refine lv_iload_n hx hb d_m_lose_4 rfl (lv_at hl 1 rfl) ?_
    refine lv_bipush (v := nI 30) hx hb d_m_lose_5 (by decide) ?_
    refine lv_icmp_gt (tgt := 14) hx hb d_m_lose_7 (by decide) (fun c_7 => ?_) (fun c_7 => ?_)
    · refine lv_iconst (v := nI 0) hx hb d_m_lose_14 (by decide) ?_
      exact r_zret S hr hlk hw d_m_lose_15 (isB_n0) (⟨rfl, bI_f (fun h => by first | exact h.1 c_1 | exact h.2 c_7)⟩)
    · refine lv_iconst (v := nI 1) hx hb d_m_lose_10 (by decide) ?_
      refine lv_goto (tgt := 15) hx hb d_m_lose_11 (by decide) ?_
      exact r_zret S hr hlk hw d_m_lose_15 (isB_n1) (⟨rfl, bI_t ⟨c_1, c_7⟩⟩)

set_option maxHeartbeats 4000000 in
set_option maxRecDepth 100000 in
theorem c_m_size (l : Launch) (M : Nat) (U : Nat) (T : Tr) (cn : Nat → Nat)  : rCi wm tm_ l y_m_size w_m_size 0 0 [] (MR M U T cn) (fun σ r σ' => σ' = σ ∧ r = nI (szN T 16)) := by
  refine rCi.mk (b := b_m_size) (nL := 3) (rt := .int) R_md (by decide) rfl (Nat.le_of_ble_eq_true rfl) ?_
  intro D ad cs σ0 hmr p e s mi args below meth c A S hr hlk hw ls hl
  have hx := S.1
  have hb := S.2.1
  have hts := S.2.2.2.2
  have hown := S.2.2.2.1
  have hl : lv_has ls 3 [(0, .ref (ad 0))] := hl
  refine lv_iconst (v := nI 0) hx hb d_m_size_0 (by decide) ?_
  refine lv_istore_n (lv' := [(1, .int (nI 0)), (0, .ref (ad 0))]) hx hb d_m_size_1 rfl hl (by decide) rfl (fun ls hl => ?_)
  refine lv_iconst (v := nI 0) hx hb d_m_size_2 (by decide) ?_
  refine lv_istore_n (lv' := [(2, .int (nI 0)), (1, .int (nI 0)), (0, .ref (ad 0))]) hx hb d_m_size_3 rfl hl (by decide) rfl (fun ls hl => ?_)
  have L4 : ∀ (n : Nat) (k : Nat) (z : Nat) (σ : St) (H : Heap) (locs : List Loc) (ls : Array Slot), k ≤ 16 → 17 ≤ k + n → z = szN T k → σ = σ0 → rW wm tm_ D ad cs A s σ H locs → lv_has ls 3 [(0, .ref (ad 0)), (1, .int (nI z)), (2, .int (nI k))] → W p l e { frames := 0, cells := 0, slots := 0, locals := 0 } s mi args below meth c H locs 0 0 (MQ below (va_Qi ((fun σ r σ' => σ' = σ ∧ r = nI (szN T 16)) σ0) (rB wm tm_ D ad cs A) A) args s 0 0 A) (F0 mi 4 ls []) := by
    intro n
    induction n with
    | zero =>
      intro k z σ H locs ls hk hn ez hw0 hw hl
      omega
    | succ n ih4 =>
      intro k z σ H locs ls hk hn ez hw0 hw hl
      refine lv_iload_n hx hb d_m_size_4 rfl (lv_at hl 2 rfl) ?_
      refine lv_bipush (v := nI 16) hx hb d_m_size_5 (by decide) ?_
      refine ln_icmp_ge (tgt := 33) hx hb d_m_size_7 (by decide) (⟨by omega, by omega⟩) (fun c_7 => ?_) (fun c_7 => ?_)
      · refine lv_iload_n hx hb d_m_size_33 rfl (lv_at hl 1 rfl) ?_
        exact r_iret S hr hlk hw d_m_size_34 (⟨hw0, by rw [ez, show k = 16 by omega]⟩)
      · refine lv_aload_n hx hb d_m_size_10 rfl (lv_at hl 0 rfl) ?_
        refine mg_1 S hw d_m_size_11 ?_
        refine lv_iload_n hx hb d_m_size_14 rfl (lv_at hl 2 rfl) ?_
        refine ml_2 S hw d_m_size_15 (by omega) ?_
        refine lv_if_eq (tgt := 25) hx hb d_m_size_16 (by decide) (fun c_16 => ?_) (fun c_16 => ?_)
        · refine lv_iload_n hx hb d_m_size_25 rfl (lv_at hl 1 rfl) ?_
          refine lv_istore_n (lv' := [(1, .int (nI z)), (0, .ref (ad 0)), (2, .int (nI k))]) hx hb d_m_size_26 rfl hl (by decide) rfl (fun ls hl => ?_)
          refine ln_iinc (lv' := [(2, .int (nI (k + 1))), (1, .int (nI z)), (0, .ref (ad 0))]) hx hb d_m_size_27 hl (k := 2) rfl rfl (by decide) rfl (fun ls hl => ?_)
          refine lv_goto (tgt := 4) hx hb d_m_size_30 (by decide) ?_
          exact ih4 (k + 1) (z) σ _ _ _ (by omega) (by omega) (by rw [ez]; show _ = szN T k + _; rw [hw0] at c_16; first | rw [if_pos ((hmr.none (by omega)).mp c_16)]; rfl | rw [if_neg (fun h => c_16 ((hmr.none (by omega)).mpr h))]) hw0 hw (lv_sub hl [2, 1, 0] rfl)
        · refine lv_iload_n hx hb d_m_size_19 rfl (lv_at hl 1 rfl) ?_
          refine lv_iconst (v := nI 1) hx hb d_m_size_20 (by decide) ?_
          refine ln_iadd hx hb d_m_size_21 ?_
          refine lv_goto (tgt := 26) hx hb d_m_size_22 (by decide) ?_
          refine lv_istore_n (lv' := [(1, .int (nI (z + 1))), (0, .ref (ad 0)), (2, .int (nI k))]) hx hb d_m_size_26 rfl hl (by decide) rfl (fun ls hl => ?_)
          refine ln_iinc (lv' := [(2, .int (nI (k + 1))), (1, .int (nI (z + 1))), (0, .ref (ad 0))]) hx hb d_m_size_27 hl (k := 2) rfl rfl (by decide) rfl (fun ls hl => ?_)
          refine lv_goto (tgt := 4) hx hb d_m_size_30 (by decide) ?_
          exact ih4 (k + 1) (z + 1) σ _ _ _ (by omega) (by omega) (by rw [ez]; show _ = szN T k + _; rw [hw0] at c_16; rw [if_neg (fun h => c_16 ((hmr.none (by omega)).mpr h))]) hw0 hw (lv_sub hl [2, 1, 0] rfl)
  exact L4 17 (0) (0) σ0 _ _ _ (by omega) (by omega) rfl rfl hw (lv_sub hl [2, 1, 0] rfl)

set_option maxHeartbeats 4000000 in
set_option maxRecDepth 100000 in
theorem c_m_sum (l : Launch) (M : Nat) (U : Nat) (T : Tr) (cn : Nat → Nat)  : rCi wm tm_ l y_m_sum w_m_sum 0 0 [] (MR M U T cn) (fun σ r σ' => σ' = σ ∧ r = smN T 16) := by
  refine rCi.mk (b := b_m_sum) (nL := 3) (rt := .int) R_md (by decide) rfl (Nat.le_of_ble_eq_true rfl) ?_
  intro D ad cs σ0 hmr p e s mi args below meth c A S hr hlk hw ls hl
  have hx := S.1
  have hb := S.2.1
  have hts := S.2.2.2.2
  have hown := S.2.2.2.1
  have hl : lv_has ls 3 [(0, .ref (ad 0))] := hl
  refine lv_iconst (v := nI 0) hx hb d_m_sum_0 (by decide) ?_
  refine lv_istore_n (lv' := [(1, .int (nI 0)), (0, .ref (ad 0))]) hx hb d_m_sum_1 rfl hl (by decide) rfl (fun ls hl => ?_)
  refine lv_iconst (v := nI 0) hx hb d_m_sum_2 (by decide) ?_
  refine lv_istore_n (lv' := [(2, .int (nI 0)), (1, .int (nI 0)), (0, .ref (ad 0))]) hx hb d_m_sum_3 rfl hl (by decide) rfl (fun ls hl => ?_)
  have L4 : ∀ (n : Nat) (k : Nat) (z : Int32) (σ : St) (H : Heap) (locs : List Loc) (ls : Array Slot), k ≤ 16 → 17 ≤ k + n → z = smN T k → σ = σ0 → rW wm tm_ D ad cs A s σ H locs → lv_has ls 3 [(0, .ref (ad 0)), (1, .int (z)), (2, .int (nI k))] → W p l e { frames := 0, cells := 0, slots := 0, locals := 0 } s mi args below meth c H locs 0 0 (MQ below (va_Qi ((fun σ r σ' => σ' = σ ∧ r = smN T 16) σ0) (rB wm tm_ D ad cs A) A) args s 0 0 A) (F0 mi 4 ls []) := by
    intro n
    induction n with
    | zero =>
      intro k z σ H locs ls hk hn ez hw0 hw hl
      omega
    | succ n ih4 =>
      intro k z σ H locs ls hk hn ez hw0 hw hl
      refine lv_iload_n hx hb d_m_sum_4 rfl (lv_at hl 2 rfl) ?_
      refine lv_bipush (v := nI 16) hx hb d_m_sum_5 (by decide) ?_
      refine ln_icmp_ge (tgt := 38) hx hb d_m_sum_7 (by decide) (⟨by omega, by omega⟩) (fun c_7 => ?_) (fun c_7 => ?_)
      · refine lv_iload_n hx hb d_m_sum_38 rfl (lv_at hl 1 rfl) ?_
        exact r_iret S hr hlk hw d_m_sum_39 (⟨hw0, by rw [ez, show k = 16 by omega]⟩)
      · refine lv_aload_n hx hb d_m_sum_10 rfl (lv_at hl 0 rfl) ?_
        refine mg_1 S hw d_m_sum_11 ?_
        refine lv_iload_n hx hb d_m_sum_14 rfl (lv_at hl 2 rfl) ?_
        refine ml_2 S hw d_m_sum_15 (by omega) ?_
        refine lv_if_eq (tgt := 30) hx hb d_m_sum_16 (by decide) (fun c_16 => ?_) (fun c_16 => ?_)
        · refine lv_iload_n hx hb d_m_sum_30 rfl (lv_at hl 1 rfl) ?_
          refine lv_istore_n (lv' := [(1, .int (z)), (0, .ref (ad 0)), (2, .int (nI k))]) hx hb d_m_sum_31 rfl hl (by decide) rfl (fun ls hl => ?_)
          refine ln_iinc (lv' := [(2, .int (nI (k + 1))), (1, .int (z)), (0, .ref (ad 0))]) hx hb d_m_sum_32 hl (k := 2) rfl rfl (by decide) rfl (fun ls hl => ?_)
          refine lv_goto (tgt := 4) hx hb d_m_sum_35 (by decide) ?_
          exact ih4 (k + 1) (z) σ _ _ _ (by omega) (by omega) (by rw [ez]; show _ = smN T k + _; rw [hw0] at c_16; rw [if_pos ((hmr.none (by omega)).mp c_16)]; exact (Int32.add_zero _).symm) hw0 hw (lv_sub hl [2, 1, 0] rfl)
        · refine lv_iload_n hx hb d_m_sum_19 rfl (lv_at hl 1 rfl) ?_
          refine lv_aload_n hx hb d_m_sum_20 rfl (lv_at hl 0 rfl) ?_
          refine mg_0 S hw d_m_sum_21 ?_
          refine lv_iload_n hx hb d_m_sum_24 rfl (lv_at hl 2 rfl) ?_
          refine ml_1 S hw d_m_sum_25 (by omega) ?_
          refine lv_iadd hx hb d_m_sum_26 ?_
          refine lv_goto (tgt := 31) hx hb d_m_sum_27 (by decide) ?_
          refine lv_istore_n (lv' := [(1, .int ((z) + (σ 1 k))), (0, .ref (ad 0)), (2, .int (nI k))]) hx hb d_m_sum_31 rfl hl (by decide) rfl (fun ls hl => ?_)
          refine ln_iinc (lv' := [(2, .int (nI (k + 1))), (1, .int ((z) + (σ 1 k))), (0, .ref (ad 0))]) hx hb d_m_sum_32 hl (k := 2) rfl rfl (by decide) rfl (fun ls hl => ?_)
          refine lv_goto (tgt := 4) hx hb d_m_sum_35 (by decide) ?_
          exact ih4 (k + 1) ((z) + (σ 1 k)) σ _ _ _ (by omega) (by omega) (by rw [ez]; show _ = smN T k + _; rw [hw0] at c_16; rw [if_neg (fun h => c_16 ((hmr.none (by omega)).mpr h)), hw0, hmr.val (by omega) c_16]) hw0 hw (lv_sub hl [2, 1, 0] rfl)
  exact L4 17 (0) (nI 0) σ0 _ _ _ (by omega) (by omega) rfl rfl hw (lv_sub hl [2, 1, 0] rfl)

set_option maxHeartbeats 4000000 in
set_option maxRecDepth 100000 in
theorem c_m_tidy (l : Launch) (M : Nat) (U : Nat) (T : Tr) (cn : Nat → Nat)  : rCi wm tm_ l y_m_tidy w_m_tidy 1 22 [] (MR M U T cn) (fun σ r σ' => σ' = σ ∧ r = nI (szN T 16)) := by
  refine rCi.mk (b := b_m_tidy) (nL := 1) (rt := .int) R_md (by decide) rfl (Nat.le_of_ble_eq_true rfl) ?_
  intro D ad cs σ0 hmr p e s mi args below meth c A S hr hlk hw ls hl
  have hx := S.1
  have hb := S.2.1
  have hts := S.2.2.2.2
  have hown := S.2.2.2.1
  have hl : lv_has ls 1 [(0, .ref (ad 0))] := hl
  refine lv_aload_n hx hb d_m_tidy_0 rfl (lv_at hl 0 rfl) ?_
  refine r_calli (rest := []) S hw k_m_m_size (c_m_size l M U T cn) (hmr) rfl rfl ⟨by decide, by decide⟩ rfl hl.1 rfl (Nat.le_of_ble_eq_true rfl) ⟨Nat.le_refl _, Nat.le_refl _⟩ d_m_tidy_1 (fun r1 σ1 H locs hq1 hw => ?_)
  obtain ⟨es1, er1⟩ := hq1
  rw [es1] at hw
  refine ln_top er1 ?_
  exact r_iret S hr hlk hw d_m_tidy_4 (⟨rfl, rfl⟩)

set_option maxHeartbeats 4000000 in
set_option maxRecDepth 100000 in
theorem c_m_members (l : Launch) (M : Nat) (U : Nat) (T : Tr) (cn : Nat → Nat)  : rCi wm tm_ l y_m_members w_m_members 0 0 [] (MR M U T cn) (fun σ r σ' => σ' = σ ∧ r = nI M) := by
  refine rCi.mk (b := b_m_members) (nL := 1) (rt := .int) R_md (by decide) rfl (Nat.le_of_ble_eq_true rfl) ?_
  intro D ad cs σ0 hmr p e s mi args below meth c A S hr hlk hw ls hl
  have hx := S.1
  have hb := S.2.1
  have hts := S.2.2.2.2
  have hown := S.2.2.2.1
  have hl : lv_has ls 1 [(0, .ref (ad 0))] := hl
  refine lv_aload_n hx hb d_m_members_0 rfl (lv_at hl 0 rfl) ?_
  refine mg_3 S hw d_m_members_1 ?_
  exact r_iret S hr hlk hw d_m_members_4 (⟨rfl, hmr.1⟩)

set_option maxHeartbeats 4000000 in
set_option maxRecDepth 100000 in
theorem c_m_working (l : Launch) (M : Nat) (U : Nat) (T : Tr) (cn : Nat → Nat) (hM : okM M) : rCi wm tm_ l y_m_working w_m_working 0 0 [] (MR M U T cn) (fun σ r σ' => σ' = σ ∧ r = nI U) := by
  refine rCi.mk (b := b_m_working) (nL := 1) (rt := .int) R_md (by decide) rfl (Nat.le_of_ble_eq_true rfl) ?_
  intro D ad cs σ0 hmr p e s mi args below meth c A S hr hlk hw ls hl
  have hx := S.1
  have hb := S.2.1
  have hts := S.2.2.2.2
  have hown := S.2.2.2.1
  have hl : lv_has ls 1 [(0, .ref (ad 0))] := hl
  refine lv_aload_n hx hb d_m_working_0 rfl (lv_at hl 0 rfl) ?_
  refine mg_4 S hw d_m_working_1 ?_
  refine lv_if_ge (tgt := 14) hx hb d_m_working_4 (by decide) (fun c_4 => ?_) (fun c_4 => ?_)
  · refine lv_aload_n hx hb d_m_working_14 rfl (lv_at hl 0 rfl) ?_
    refine mg_3 S hw d_m_working_15 ?_
    refine lv_iconst (v := nI 1) hx hb d_m_working_18 (by decide) ?_
    refine lv_aload_n hx hb d_m_working_19 rfl (lv_at hl 0 rfl) ?_
    refine mg_4 S hw d_m_working_20 ?_
    refine lv_ishl hx hb d_m_working_23 ?_
    refine lv_iconst (v := (-1)) hx hb d_m_working_24 (by decide) ?_
    refine lv_ixor hx hb d_m_working_25 ?_
    refine lv_iand hx hb d_m_working_26 ?_
    exact r_iret S hr hlk hw d_m_working_27 (⟨rfl, by
          rcases hmr.2.1 with ⟨e, -⟩ | ⟨d, hd, e, hb, eU⟩
          · rw [e] at c_4; exact absurd c_4 (by decide)
          · rw [hmr.1, e, eU]; exact (and6 M hM.1 d hd hb).1⟩)
  · refine lv_aload_n hx hb d_m_working_7 rfl (lv_at hl 0 rfl) ?_
    refine mg_3 S hw d_m_working_8 ?_
    refine lv_goto (tgt := 27) hx hb d_m_working_11 (by decide) ?_
    exact r_iret S hr hlk hw d_m_working_27 (⟨rfl, by rw [hmr.1, (idR_neg hM hmr.2.1).mp (Int32.not_le.mp c_4)]⟩)

set_option maxHeartbeats 4000000 in
set_option maxRecDepth 100000 in
theorem c_m_nextKey (l : Launch) (k : Int32) (M : Nat) (U : Nat) (T : Tr) (cn : Nat → Nat)  : rCi wm tm_ l y_m_nextKey w_m_nextKey 0 0 [.int (k)] (MR M U T cn) (fun σ r σ' => σ' = σ ∧ r = nxN T (16 - k.toNatClampNeg) k.toNatClampNeg) := by
  refine rCi.mk (b := b_m_nextKey) (nL := 3) (rt := .int) R_md (by decide) rfl (Nat.le_of_ble_eq_true rfl) ?_
  intro D ad cs σ0 hmr p e s mi args below meth c A S hr hlk hw ls hl
  have hx := S.1
  have hb := S.2.1
  have hts := S.2.2.2.2
  have hown := S.2.2.2.1
  have hl : lv_has ls 3 [(0, .ref (ad 0)), (1, .int (k))] := hl
  refine lv_iconst (v := nI 0) hx hb d_m_nextKey_0 (by decide) ?_
  refine lv_istore_n (lv' := [(2, .int (nI 0)), (0, .ref (ad 0)), (1, .int (k))]) hx hb d_m_nextKey_1 rfl hl (by decide) rfl (fun ls hl => ?_)
  have L2 : ∀ (n : Nat) (j : Nat) (σ : St) (H : Heap) (locs : List Loc) (ls : Array Slot), j ≤ 16 → 17 ≤ j + n → (k.toNatClampNeg ≤ j → nxN T (16 - j) j = nxN T (16 - k.toNatClampNeg) k.toNatClampNeg) → σ = σ0 → rW wm tm_ D ad cs A s σ H locs → lv_has ls 3 [(0, .ref (ad 0)), (1, .int (k)), (2, .int (nI j))] → W p l e { frames := 0, cells := 0, slots := 0, locals := 0 } s mi args below meth c H locs 0 0 (MQ below (va_Qi ((fun σ r σ' => σ' = σ ∧ r = nxN T (16 - k.toNatClampNeg) k.toNatClampNeg) σ0) (rB wm tm_ D ad cs A) A) args s 0 0 A) (F0 mi 2 ls []) := by
    intro n
    induction n with
    | zero =>
      intro j σ H locs ls hj hn hez hw0 hw hl
      omega
    | succ n ih2 =>
      intro j σ H locs ls hj hn hez hw0 hw hl
      refine lv_iload_n hx hb d_m_nextKey_2 rfl (lv_at hl 2 rfl) ?_
      refine lv_bipush (v := nI 16) hx hb d_m_nextKey_3 (by decide) ?_
      refine ln_icmp_ge (tgt := 30) hx hb d_m_nextKey_5 (by decide) (⟨by omega, by omega⟩) (fun c_5 => ?_) (fun c_5 => ?_)
      · refine lv_ldc (v := (-200000)) hx hb hown (hts _ q_const_m_34) d_m_nextKey_30 ?_
        exact r_iret S hr hlk hw d_m_nextKey_32 (⟨hw0, by
              by_cases q : k.toNatClampNeg ≤ j
              · rw [← hez q]; exact (nxN_e (by omega)).symm
              · exact (nxN_e (by omega)).symm⟩)
      · refine lv_iload_n hx hb d_m_nextKey_8 rfl (lv_at hl 2 rfl) ?_
        refine lv_iload_n hx hb d_m_nextKey_9 rfl (lv_at hl 1 rfl) ?_
        refine lv_icmp_lt (tgt := 24) hx hb d_m_nextKey_10 (by decide) (fun c_10 => ?_) (fun c_10 => ?_)
        · refine ln_iinc (lv' := [(2, .int (nI (j + 1))), (0, .ref (ad 0)), (1, .int (k))]) hx hb d_m_nextKey_24 hl (k := 2) rfl rfl (by decide) rfl (fun ls hl => ?_)
          refine lv_goto (tgt := 2) hx hb d_m_nextKey_27 (by decide) ?_
          exact ih2 (j + 1) σ _ _ _ (by omega) (by omega) (fun h => by
                by_cases q : j < k.toNatClampNeg
                · rw [show k.toNatClampNeg = j + 1 by omega]
                · have h2 := hez (by omega)
                  first
                    | exact absurd ((lt_cl (by omega)).mp c_10) q
                    | (rw [hw0] at c_19; rw [← nxN_n (by omega) ((hmr.none (by omega)).mp c_19)]; exact h2)) hw0 hw (lv_sub hl [1, 2, 0] rfl)
        · refine lv_aload_n hx hb d_m_nextKey_13 rfl (lv_at hl 0 rfl) ?_
          refine mg_1 S hw d_m_nextKey_14 ?_
          refine lv_iload_n hx hb d_m_nextKey_17 rfl (lv_at hl 2 rfl) ?_
          refine ml_2 S hw d_m_nextKey_18 (by omega) ?_
          refine lv_if_eq (tgt := 24) hx hb d_m_nextKey_19 (by decide) (fun c_19 => ?_) (fun c_19 => ?_)
          · refine ln_iinc (lv' := [(2, .int (nI (j + 1))), (0, .ref (ad 0)), (1, .int (k))]) hx hb d_m_nextKey_24 hl (k := 2) rfl rfl (by decide) rfl (fun ls hl => ?_)
            refine lv_goto (tgt := 2) hx hb d_m_nextKey_27 (by decide) ?_
            exact ih2 (j + 1) σ _ _ _ (by omega) (by omega) (fun h => by
                  by_cases q : j < k.toNatClampNeg
                  · rw [show k.toNatClampNeg = j + 1 by omega]
                  · have h2 := hez (by omega)
                    first
                      | exact absurd ((lt_cl (by omega)).mp c_10) q
                      | (rw [hw0] at c_19; rw [← nxN_n (by omega) ((hmr.none (by omega)).mp c_19)]; exact h2)) hw0 hw (lv_sub hl [1, 2, 0] rfl)
          · refine lv_iload_n hx hb d_m_nextKey_22 rfl (lv_at hl 2 rfl) ?_
            exact r_iret S hr hlk hw d_m_nextKey_23 (⟨hw0, by
                  rw [hw0] at c_19
                  have h1 : k.toNatClampNeg ≤ j := Nat.not_lt.mp (fun q => c_10 ((lt_cl (by omega)).mpr q))
                  rw [← hez h1]; exact (nxN_y (by omega) (fun h => c_19 ((hmr.none (by omega)).mpr h))).symm⟩)
  exact L2 17 (0) σ0 _ _ _ (by omega) (by omega) (fun h => by rw [show k.toNatClampNeg = 0 by omega]) rfl hw (lv_sub hl [1, 2, 0] rfl)

set_option maxHeartbeats 4000000 in
set_option maxRecDepth 100000 in
theorem c_m_changes (l : Launch) (k : Int32) (M : Nat) (U : Nat) (T : Tr) (cn : Nat → Nat)  : rCi wm tm_ l y_m_changes w_m_changes 1 21 [.int (k)] (MR M U T cn) (fun σ r σ' => σ' = σ ∧ (¬ inM k 16 → r = cBAD) ∧ ∀ kj, kj < 16 → k = nI kj → r = nI (cn kj / 8)) := by
  refine rCi.mk (b := b_m_changes) (nL := 2) (rt := .int) R_md (by decide) rfl (Nat.le_of_ble_eq_true rfl) ?_
  intro D ad cs σ0 hmr p e s mi args below meth c A S hr hlk hw ls hl
  have hx := S.1
  have hb := S.2.1
  have hts := S.2.2.2.2
  have hown := S.2.2.2.1
  have hl : lv_has ls 2 [(0, .ref (ad 0)), (1, .int (k))] := hl
  refine lv_aload_n hx hb d_m_changes_0 rfl (lv_at hl 0 rfl) ?_
  refine lv_iload_n hx hb d_m_changes_1 rfl (lv_at hl 1 rfl) ?_
  refine r_calli (rest := []) S hw k_m_m_key (c_m_key l (k)) (trivial) rfl rfl ⟨by decide, by decide⟩ rfl hl.1 rfl (Nat.le_of_ble_eq_true rfl) ⟨Nat.le_refl _, Nat.le_refl _⟩ d_m_changes_2 (fun r1 σ1 H locs hq1 hw => ?_)
  obtain ⟨es1, er1⟩ := hq1
  rw [es1] at hw
  refine ln_top (er1) ?_
  refine lb_if_eq (tgt := 17) hx hb d_m_changes_5 (by decide) (fun c_5 => ?_) (fun c_5 => ?_)
  · refine lv_ldc (v := (-100000)) hx hb hown (hts _ q_const_m_41) d_m_changes_17 ?_
    exact r_iret S hr hlk hw d_m_changes_19 (⟨rfl, fun _ => rfl, fun kj h1 e => absurd (by rw [e]; exact inM_nI h1 (by decide)) c_5⟩)
  · obtain ⟨kj, hkj, ekj⟩ := inM_of c_5 (by decide)
    subst ekj
    refine lv_aload_n hx hb d_m_changes_8 rfl (lv_at hl 0 rfl) ?_
    refine mg_2 S hw d_m_changes_9 ?_
    refine lv_iload_n hx hb d_m_changes_12 rfl (lv_at hl 1 rfl) ?_
    refine ml_3 S hw d_m_changes_13 (by omega) ?_
    refine lv_goto (tgt := 19) hx hb d_m_changes_14 (by decide) ?_
    exact r_iret S hr hlk hw d_m_changes_19 (⟨rfl, fun h => absurd c_5 h, fun k2 h1 e => by
          have e := (nI_eq (by omega) (by omega)).mp e
          subst e
          exact (hmr.2.2.2 kj hkj).2.2⟩)
end
section
theorem q_cls_r : Cond.classLink R_law 7 R_rr ∈ gw_tbl := List.mem_filter.mpr ⟨List.mem_of_getElem? (i := 39) rfl, rfl⟩
theorem q_make_r : Cond.instantiable R_rr 21 ∈ gw_tbl := List.mem_filter.mpr ⟨List.mem_of_getElem? (i := 40) rfl, rfl⟩
theorem q_inst_obj : Cond.instanceMethod objectInit ∈ gw_tbl := List.mem_filter.mpr ⟨List.mem_of_getElem? (i := 45) rfl, rfl⟩
theorem q_code_obj : Cond.code objectInit ⟨#[0xb1]⟩ 1 none ∈ gw_tbl := List.mem_filter.mpr ⟨List.mem_of_getElem? (i := 46) rfl, rfl⟩
theorem q_arr_int : Cond.arrayClass FieldType.int ∈ gw_tbl := List.mem_filter.mpr ⟨List.mem_of_getElem? (i := 130) rfl, rfl⟩
theorem q_arr_byte : Cond.arrayClass FieldType.byte ∈ gw_tbl := List.mem_filter.mpr ⟨List.mem_of_getElem? (i := 131) rfl, rfl⟩
theorem q_arr_boolean : Cond.arrayClass FieldType.boolean ∈ gw_tbl := List.mem_filter.mpr ⟨List.mem_of_getElem? (i := 132) rfl, rfl⟩
theorem q_cls_m : Cond.classLink R_law 10 R_md ∈ gw_tbl := List.mem_filter.mpr ⟨List.mem_of_getElem? (i := 310) rfl, rfl⟩
theorem q_make_m : Cond.instantiable R_md 5 ∈ gw_tbl := List.mem_filter.mpr ⟨List.mem_of_getElem? (i := 311) rfl, rfl⟩
/-- nothing written yet -/
def T0 : Tr := fun _ => (nI 0, nI 0, nI 0)
def sI : St := fun a b => if a = 0 then (if b = 0 then nI 7 else if b = 1 then nI 7 else 0) else 0
def mI : St := fun a b => if a = 0 then (if b = 3 then nI 7 else if b = 4 then -1 else 0) else 0
theorem ok7 : okM 7 := ⟨by decide, by decide⟩
theorem init_inv {σ : St} (hL : Lay σ (layR 7 24)) (hf : ∀ x y, x ≠ 3 → x ≠ 4 → ¬ (x = 0 ∧ y = 2) → σ x y = sI x y) : Inv 7 7 T0 σ := by
  have z : ∀ x y, x ≠ 0 → x ≠ 3 → x ≠ 4 → σ x y = 0 := fun x y h0 h3 h4 => (hf x y h3 h4 (fun q => h0 q.1)).trans (if_neg h0)
  have g : ∀ k, good T0 k 0 0 0 := fun k => ⟨by decide, by show (0 : Int32).toInt ≤ (nI 0).toInt; decide, fun _ h => absurd rfl h⟩
  refine ⟨⟨0, by decide, (hf 0 0 (by decide) (by decide) (by decide)).trans rfl, (hf 0 1 (by decide) (by decide) (by decide)).trans rfl, hL, (hf 0 20 (by decide) (by decide) (by decide)).trans rfl⟩, ⟨fun m _ k _ => ?_, fun h _ m _ k _ => ?_, fun i => ?_, fun i => ?_, ?_⟩, fun k hk => ⟨0, by decide, 1, by decide, by decide, z _ _ (by decide) (by decide) (by decide), z _ _ (by decide) (by decide) (by decide)⟩⟩
  · unfold celG; rw [z 5 _ (by decide) (by decide) (by decide), z 6 _ (by decide) (by decide) (by decide), z 7 _ (by decide) (by decide) (by decide)]; exact g k
  · unfold hinG; rw [z 8 _ (by decide) (by decide) (by decide), z 9 _ (by decide) (by decide) (by decide), z 10 _ (by decide) (by decide) (by decide)]; exact g k
  · rw [z 7 _ (by decide) (by decide) (by decide)]; exact isB_0
  · rw [z 10 _ (by decide) (by decide) (by decide)]; exact isB_0
  · rw [hf 0 15 (by decide) (by decide) (by decide)]; exact isB_0
theorem init_md : MR 7 7 T0 (fun _ => 0) mI := ⟨rfl, Or.inl ⟨rfl, rfl⟩, fun _ => isB_0, fun k _ => ⟨(if_pos (show mI 2 k = 0 from rfl)).trans (if_pos (Or.inl (show (T0 k).1 = 0 from rfl))).symm, Or.inl rfl, by show (0 : Int32) = nI (0 / 8); decide⟩⟩
set_option maxHeartbeats 8000000 in
set_option maxRecDepth 100000 in
theorem c_r_init (l : Launch) (D : va_G) (h0 sz : Nat) : Met l y_r_init w_r_init { frames := 3, cells := 12, slots := 2160, locals := 64 } (va_Pc [.ref h0] (fun U => U.heap.size = sz ∧ va_P D classes [(h0, .inr (0, [.int 0, .int 0, .int 0, .null, .null, .null, .null, .null, .null, .null, .null, .null, .int 0, .int 0, .int 0, .int 0, .null, .null, .null, .int 0, .int 0]))] U.heap ∧ va_K D classes [] U ∧ va_D (fun _ => True) [(h0, .inr (0, [.int 0, .int 0, .int 0, .null, .null, .null, .null, .null, .null, .null, .null, .null, .int 0, .int 0, .int 0, .int 0, .null, .null, .null, .int 0, .int 0]))])) (va_Qv (fun u : (Nat → Nat) × (Nat → ClassId) × St => u.1 0 = h0 ∧ Inv 7 7 T0 u.2.2) (fun u t => rB wr tr_ D u.1 u.2.1 (va_A [(h0, .inr (0, [.int 0, .int 0, .int 0, .null, .null, .null, .null, .null, .null, .null, .null, .null, .int 0, .int 0, .int 0, .int 0, .null, .null, .null, .int 0, .int 0]))] sz) u.2.2 t) (va_A [(h0, .inr (0, [.int 0, .int 0, .int 0, .null, .null, .null, .null, .null, .null, .null, .null, .null, .int 0, .int 0, .int 0, .int 0, .null, .null, .null, .int 0, .int 0]))] sz)) 12 2160 (va_A [(h0, .inr (0, [.int 0, .int 0, .int 0, .null, .null, .null, .null, .null, .null, .null, .null, .null, .int 0, .int 0, .int 0, .int 0, .null, .null, .null, .int 0, .int 0]))] sz) := by
  refine Met.ofW (cc := b_r_init) (maxL := 1) (ret := none) (by decide) rfl ?_
  intro p e s m args below meth c s₁ B hml hv
  obtain ⟨rfl, hsz, hP, hK, hD0⟩ := hv
  have hx := B.exec
  have hb := B.bytes
  have hr := B.returns
  have hlk := B.notSynchronized
  have hts0 := atoms_spec (ws := w_r_init) B.pre
  have hts : ∀ w ∈ gw_tbl, w.before _ s = true := fun w hw => hts0 w (List.mem_cons_of_mem _ hw)
  have hown : s.vm.findClass R_rr = some m.cls := findClass_of_methodNamed B.named
  have hin : meth.name = "<init>" := (name_of_methodNamed B.named B.method).1
  subst hsz
  have hD := hD0.self (sz := s.heap.size)
  generalize hAe : va_A [(h0, .inr (0, [.int 0, .int 0, .int 0, .null, .null, .null, .null, .null, .null, .null, .null, .null, .int 0, .int 0, .int 0, .int 0, .null, .null, .null, .int 0, .int 0]))] s.heap.size = A at hD ⊢
  have hA : ∀ q : Nat, s.heap.size ≤ q → A q := fun q h => by rw [← hAe]; exact Or.inr h
  have hS : va_S A s.heap s.heap [] := va_S.rf
  have hl := lv_entry ([.ref h0]) (n := 1) (Nat.le_of_ble_eq_true rfl)
  rw [lg_entry_eq]
  generalize (lg_sl ([.ref h0]) ++ List.replicate (1 - (lg_sl ([.ref h0])).length) Slot.unset).toArray = ls at hl ⊢
  have hl : lv_has ls 1 [(0, .ref h0)] := hl
  refine lv_aload_n hx hb d_r_init_0 rfl (lv_at hl 0 rfl) ?_
  refine W.objInit hx hb hown (hts _ q_link_r_obj) (hts _ q_inst_obj) (hts _ q_code_obj) rfl (by rw [hml]; exact hl.1) rfl d_r_init_1 (Nat.le_of_ble_eq_true rfl) (Nat.le_of_ble_eq_true rfl) ?_
  refine W.eq (g2 := F0 m 4 ls []) rfl ?_
  refine lv_aload_n hx hb d_r_init_4 rfl (lv_at hl 0 rfl) ?_
  refine lv_bipush (v := nI 7) hx hb d_r_init_5 (by decide) ?_
  refine va_put (D := D) (ci := 0) (v := .int (nI 7)) (ty := .int) (C := R_rr) (T := F_rr) (N := 21) hx hb hts i_rr t_rr t_rr_ok n_rr hown hK hP hD hS 0 rfl rfl 0 (by decide) (hts _ q_rr_f0) (fun _ h9 => h9) rfl (by decide +kernel) rfl rfl (Nat.le_of_ble_eq_true rfl) d_r_init_7 (fun H locs hP hD hS => ?_)
  have hP : va_P D classes [(h0, .inr (0, [.int (nI 7), .int 0, .int 0, .null, .null, .null, .null, .null, .null, .null, .null, .null, .int 0, .int 0, .int 0, .int 0, .null, .null, .null, .int 0, .int 0]))] H := hP
  have hD : va_D A [(h0, .inr (0, [.int (nI 7), .int 0, .int 0, .null, .null, .null, .null, .null, .null, .null, .null, .null, .int 0, .int 0, .int 0, .int 0, .null, .null, .null, .int 0, .int 0]))] := hD
  refine lv_aload_n hx hb d_r_init_10 rfl (lv_at hl 0 rfl) ?_
  refine lv_bipush (v := nI 7) hx hb d_r_init_11 (by decide) ?_
  refine va_put (D := D) (ci := 0) (v := .int (nI 7)) (ty := .int) (C := R_rr) (T := F_rr) (N := 21) hx hb hts i_rr t_rr t_rr_ok n_rr hown hK hP hD hS 0 rfl rfl 1 (by decide) (hts _ q_rr_f1) (fun _ h9 => h9) rfl (by decide +kernel) rfl rfl (Nat.le_of_ble_eq_true rfl) d_r_init_13 (fun H locs hP hD hS => ?_)
  have hP : va_P D classes [(h0, .inr (0, [.int (nI 7), .int (nI 7), .int 0, .null, .null, .null, .null, .null, .null, .null, .null, .null, .int 0, .int 0, .int 0, .int 0, .null, .null, .null, .int 0, .int 0]))] H := hP
  have hD : va_D A [(h0, .inr (0, [.int (nI 7), .int (nI 7), .int 0, .null, .null, .null, .null, .null, .null, .null, .null, .null, .int 0, .int 0, .int 0, .int 0, .null, .null, .null, .int 0, .int 0]))] := hD
  refine lv_aload_n hx hb d_r_init_16 rfl (lv_at hl 0 rfl) ?_
  refine lv_bipush (v := nI 24) hx hb d_r_init_17 (by decide) ?_
  refine va_newa (atype := .int) (ty := .int) (n := nI 24) (N' := 24) (a0 := (24, .inl (fun _ => 0))) hx hb (hts _ q_arr_int) rfl hK hP hD hS hA (fun _ => rfl) (by decide) (by decide) (by decide) (Nat.le_of_ble_eq_true rfl) (Nat.le_of_ble_eq_true rfl) d_r_init_19 (fun q3 c3 H hK hP hD hS => ?_)
  have hK : va_K D classes [(c3, .int)] s := hK
  have hP : va_P D classes [(h0, .inr (0, [.int (nI 7), .int (nI 7), .int 0, .null, .null, .null, .null, .null, .null, .null, .null, .null, .int 0, .int 0, .int 0, .int 0, .null, .null, .null, .int 0, .int 0])), (q3, .inl (c3, 24, .inl (fun _ => 0)))] H := hP
  have hD : va_D A [(h0, .inr (0, [.int (nI 7), .int (nI 7), .int 0, .null, .null, .null, .null, .null, .null, .null, .null, .null, .int 0, .int 0, .int 0, .int 0, .null, .null, .null, .int 0, .int 0])), (q3, .inl (c3, 24, .inl (fun _ => 0)))] := hD
  refine W.widen (k := 1) (n := 24) (by omega) (by omega) ?_
  refine va_putF (D := D) (ci := 0) (v := .ref q3) (ty := (.array .int)) (C := R_rr) (T := F_rr) (N := 21) hx hb hts i_rr t_rr t_rr_ok n_rr hown hK hP hD hS 0 rfl rfl 3 (by decide) (hts _ q_rr_f3) (fun _ h9 => h9) rfl hin rfl (by decide +kernel) rfl rfl (Nat.le_of_ble_eq_true rfl) d_r_init_21 (fun H locs hP hD hS => ?_)
  have hP : va_P D classes [(h0, .inr (0, [.int (nI 7), .int (nI 7), .int 0, .ref q3, .null, .null, .null, .null, .null, .null, .null, .null, .int 0, .int 0, .int 0, .int 0, .null, .null, .null, .int 0, .int 0])), (q3, .inl (c3, 24, .inl (fun _ => 0)))] H := hP
  have hD : va_D A [(h0, .inr (0, [.int (nI 7), .int (nI 7), .int 0, .ref q3, .null, .null, .null, .null, .null, .null, .null, .null, .int 0, .int 0, .int 0, .int 0, .null, .null, .null, .int 0, .int 0])), (q3, .inl (c3, 24, .inl (fun _ => 0)))] := hD
  refine lv_aload_n hx hb d_r_init_24 rfl (lv_at hl 0 rfl) ?_
  refine lv_bipush (v := nI 24) hx hb d_r_init_25 (by decide) ?_
  refine va_newa (atype := .byte) (ty := .byte) (n := nI 24) (N' := 24) (a0 := (24, .inl (fun _ => 0))) hx hb (hts _ q_arr_byte) rfl hK hP hD hS hA (fun _ => rfl) (by decide) (by decide) (by decide) (Nat.le_of_ble_eq_true rfl) (Nat.le_of_ble_eq_true rfl) d_r_init_27 (fun q4 c4 H hK hP hD hS => ?_)
  have hK : va_K D classes [(c3, .int), (c4, .byte)] s := hK
  have hP : va_P D classes [(h0, .inr (0, [.int (nI 7), .int (nI 7), .int 0, .ref q3, .null, .null, .null, .null, .null, .null, .null, .null, .int 0, .int 0, .int 0, .int 0, .null, .null, .null, .int 0, .int 0])), (q3, .inl (c3, 24, .inl (fun _ => 0))), (q4, .inl (c4, 24, .inl (fun _ => 0)))] H := hP
  have hD : va_D A [(h0, .inr (0, [.int (nI 7), .int (nI 7), .int 0, .ref q3, .null, .null, .null, .null, .null, .null, .null, .null, .int 0, .int 0, .int 0, .int 0, .null, .null, .null, .int 0, .int 0])), (q3, .inl (c3, 24, .inl (fun _ => 0))), (q4, .inl (c4, 24, .inl (fun _ => 0)))] := hD
  refine W.widen (k := 2) (n := 48) (by omega) (by omega) ?_
  refine va_putF (D := D) (ci := 0) (v := .ref q4) (ty := (.array .byte)) (C := R_rr) (T := F_rr) (N := 21) hx hb hts i_rr t_rr t_rr_ok n_rr hown hK hP hD hS 0 rfl rfl 4 (by decide) (hts _ q_rr_f4) (fun _ h9 => h9) rfl hin rfl (by decide +kernel) rfl rfl (Nat.le_of_ble_eq_true rfl) d_r_init_29 (fun H locs hP hD hS => ?_)
  have hP : va_P D classes [(h0, .inr (0, [.int (nI 7), .int (nI 7), .int 0, .ref q3, .ref q4, .null, .null, .null, .null, .null, .null, .null, .int 0, .int 0, .int 0, .int 0, .null, .null, .null, .int 0, .int 0])), (q3, .inl (c3, 24, .inl (fun _ => 0))), (q4, .inl (c4, 24, .inl (fun _ => 0)))] H := hP
  have hD : va_D A [(h0, .inr (0, [.int (nI 7), .int (nI 7), .int 0, .ref q3, .ref q4, .null, .null, .null, .null, .null, .null, .null, .int 0, .int 0, .int 0, .int 0, .null, .null, .null, .int 0, .int 0])), (q3, .inl (c3, 24, .inl (fun _ => 0))), (q4, .inl (c4, 24, .inl (fun _ => 0)))] := hD
  refine lv_aload_n hx hb d_r_init_32 rfl (lv_at hl 0 rfl) ?_
  refine lv_bipush (v := nI 96) hx hb d_r_init_33 (by decide) ?_
  refine va_newa (atype := .int) (ty := .int) (n := nI 96) (N' := 96) (a0 := (96, .inl (fun _ => 0))) hx hb (hts _ q_arr_int) rfl hK hP hD hS hA (fun _ => rfl) (by decide) (by decide) (by decide) (Nat.le_of_ble_eq_true rfl) (Nat.le_of_ble_eq_true rfl) d_r_init_35 (fun q5 c5 H hK hP hD hS => ?_)
  have hK : va_K D classes [(c3, .int), (c4, .byte), (c5, .int)] s := hK
  have hP : va_P D classes [(h0, .inr (0, [.int (nI 7), .int (nI 7), .int 0, .ref q3, .ref q4, .null, .null, .null, .null, .null, .null, .null, .int 0, .int 0, .int 0, .int 0, .null, .null, .null, .int 0, .int 0])), (q3, .inl (c3, 24, .inl (fun _ => 0))), (q4, .inl (c4, 24, .inl (fun _ => 0))), (q5, .inl (c5, 96, .inl (fun _ => 0)))] H := hP
  have hD : va_D A [(h0, .inr (0, [.int (nI 7), .int (nI 7), .int 0, .ref q3, .ref q4, .null, .null, .null, .null, .null, .null, .null, .int 0, .int 0, .int 0, .int 0, .null, .null, .null, .int 0, .int 0])), (q3, .inl (c3, 24, .inl (fun _ => 0))), (q4, .inl (c4, 24, .inl (fun _ => 0))), (q5, .inl (c5, 96, .inl (fun _ => 0)))] := hD
  refine W.widen (k := 3) (n := 144) (by omega) (by omega) ?_
  refine va_putF (D := D) (ci := 0) (v := .ref q5) (ty := (.array .int)) (C := R_rr) (T := F_rr) (N := 21) hx hb hts i_rr t_rr t_rr_ok n_rr hown hK hP hD hS 0 rfl rfl 5 (by decide) (hts _ q_rr_f5) (fun _ h9 => h9) rfl hin rfl (by decide +kernel) rfl rfl (Nat.le_of_ble_eq_true rfl) d_r_init_37 (fun H locs hP hD hS => ?_)
  have hP : va_P D classes [(h0, .inr (0, [.int (nI 7), .int (nI 7), .int 0, .ref q3, .ref q4, .ref q5, .null, .null, .null, .null, .null, .null, .int 0, .int 0, .int 0, .int 0, .null, .null, .null, .int 0, .int 0])), (q3, .inl (c3, 24, .inl (fun _ => 0))), (q4, .inl (c4, 24, .inl (fun _ => 0))), (q5, .inl (c5, 96, .inl (fun _ => 0)))] H := hP
  have hD : va_D A [(h0, .inr (0, [.int (nI 7), .int (nI 7), .int 0, .ref q3, .ref q4, .ref q5, .null, .null, .null, .null, .null, .null, .int 0, .int 0, .int 0, .int 0, .null, .null, .null, .int 0, .int 0])), (q3, .inl (c3, 24, .inl (fun _ => 0))), (q4, .inl (c4, 24, .inl (fun _ => 0))), (q5, .inl (c5, 96, .inl (fun _ => 0)))] := hD
  refine lv_aload_n hx hb d_r_init_40 rfl (lv_at hl 0 rfl) ?_
  refine lv_bipush (v := nI 96) hx hb d_r_init_41 (by decide) ?_
  refine va_newa (atype := .int) (ty := .int) (n := nI 96) (N' := 96) (a0 := (96, .inl (fun _ => 0))) hx hb (hts _ q_arr_int) rfl hK hP hD hS hA (fun _ => rfl) (by decide) (by decide) (by decide) (Nat.le_of_ble_eq_true rfl) (Nat.le_of_ble_eq_true rfl) d_r_init_43 (fun q6 c6 H hK hP hD hS => ?_)
  have hK : va_K D classes [(c3, .int), (c4, .byte), (c5, .int), (c6, .int)] s := hK
  have hP : va_P D classes [(h0, .inr (0, [.int (nI 7), .int (nI 7), .int 0, .ref q3, .ref q4, .ref q5, .null, .null, .null, .null, .null, .null, .int 0, .int 0, .int 0, .int 0, .null, .null, .null, .int 0, .int 0])), (q3, .inl (c3, 24, .inl (fun _ => 0))), (q4, .inl (c4, 24, .inl (fun _ => 0))), (q5, .inl (c5, 96, .inl (fun _ => 0))), (q6, .inl (c6, 96, .inl (fun _ => 0)))] H := hP
  have hD : va_D A [(h0, .inr (0, [.int (nI 7), .int (nI 7), .int 0, .ref q3, .ref q4, .ref q5, .null, .null, .null, .null, .null, .null, .int 0, .int 0, .int 0, .int 0, .null, .null, .null, .int 0, .int 0])), (q3, .inl (c3, 24, .inl (fun _ => 0))), (q4, .inl (c4, 24, .inl (fun _ => 0))), (q5, .inl (c5, 96, .inl (fun _ => 0))), (q6, .inl (c6, 96, .inl (fun _ => 0)))] := hD
  refine W.widen (k := 4) (n := 240) (by omega) (by omega) ?_
  refine va_putF (D := D) (ci := 0) (v := .ref q6) (ty := (.array .int)) (C := R_rr) (T := F_rr) (N := 21) hx hb hts i_rr t_rr t_rr_ok n_rr hown hK hP hD hS 0 rfl rfl 6 (by decide) (hts _ q_rr_f6) (fun _ h9 => h9) rfl hin rfl (by decide +kernel) rfl rfl (Nat.le_of_ble_eq_true rfl) d_r_init_45 (fun H locs hP hD hS => ?_)
  have hP : va_P D classes [(h0, .inr (0, [.int (nI 7), .int (nI 7), .int 0, .ref q3, .ref q4, .ref q5, .ref q6, .null, .null, .null, .null, .null, .int 0, .int 0, .int 0, .int 0, .null, .null, .null, .int 0, .int 0])), (q3, .inl (c3, 24, .inl (fun _ => 0))), (q4, .inl (c4, 24, .inl (fun _ => 0))), (q5, .inl (c5, 96, .inl (fun _ => 0))), (q6, .inl (c6, 96, .inl (fun _ => 0)))] H := hP
  have hD : va_D A [(h0, .inr (0, [.int (nI 7), .int (nI 7), .int 0, .ref q3, .ref q4, .ref q5, .ref q6, .null, .null, .null, .null, .null, .int 0, .int 0, .int 0, .int 0, .null, .null, .null, .int 0, .int 0])), (q3, .inl (c3, 24, .inl (fun _ => 0))), (q4, .inl (c4, 24, .inl (fun _ => 0))), (q5, .inl (c5, 96, .inl (fun _ => 0))), (q6, .inl (c6, 96, .inl (fun _ => 0)))] := hD
  refine lv_aload_n hx hb d_r_init_48 rfl (lv_at hl 0 rfl) ?_
  refine lv_bipush (v := nI 96) hx hb d_r_init_49 (by decide) ?_
  refine va_newa (atype := .boolean) (ty := .boolean) (n := nI 96) (N' := 96) (a0 := (96, .inl (fun _ => 0))) hx hb (hts _ q_arr_boolean) rfl hK hP hD hS hA (fun _ => rfl) (by decide) (by decide) (by decide) (Nat.le_of_ble_eq_true rfl) (Nat.le_of_ble_eq_true rfl) d_r_init_51 (fun q7 c7 H hK hP hD hS => ?_)
  have hK : va_K D classes [(c3, .int), (c4, .byte), (c5, .int), (c6, .int), (c7, .boolean)] s := hK
  have hP : va_P D classes [(h0, .inr (0, [.int (nI 7), .int (nI 7), .int 0, .ref q3, .ref q4, .ref q5, .ref q6, .null, .null, .null, .null, .null, .int 0, .int 0, .int 0, .int 0, .null, .null, .null, .int 0, .int 0])), (q3, .inl (c3, 24, .inl (fun _ => 0))), (q4, .inl (c4, 24, .inl (fun _ => 0))), (q5, .inl (c5, 96, .inl (fun _ => 0))), (q6, .inl (c6, 96, .inl (fun _ => 0))), (q7, .inl (c7, 96, .inl (fun _ => 0)))] H := hP
  have hD : va_D A [(h0, .inr (0, [.int (nI 7), .int (nI 7), .int 0, .ref q3, .ref q4, .ref q5, .ref q6, .null, .null, .null, .null, .null, .int 0, .int 0, .int 0, .int 0, .null, .null, .null, .int 0, .int 0])), (q3, .inl (c3, 24, .inl (fun _ => 0))), (q4, .inl (c4, 24, .inl (fun _ => 0))), (q5, .inl (c5, 96, .inl (fun _ => 0))), (q6, .inl (c6, 96, .inl (fun _ => 0))), (q7, .inl (c7, 96, .inl (fun _ => 0)))] := hD
  refine W.widen (k := 5) (n := 336) (by omega) (by omega) ?_
  refine va_putF (D := D) (ci := 0) (v := .ref q7) (ty := (.array .boolean)) (C := R_rr) (T := F_rr) (N := 21) hx hb hts i_rr t_rr t_rr_ok n_rr hown hK hP hD hS 0 rfl rfl 7 (by decide) (hts _ q_rr_f7) (fun _ h9 => h9) rfl hin rfl (by decide +kernel) rfl rfl (Nat.le_of_ble_eq_true rfl) d_r_init_53 (fun H locs hP hD hS => ?_)
  have hP : va_P D classes [(h0, .inr (0, [.int (nI 7), .int (nI 7), .int 0, .ref q3, .ref q4, .ref q5, .ref q6, .ref q7, .null, .null, .null, .null, .int 0, .int 0, .int 0, .int 0, .null, .null, .null, .int 0, .int 0])), (q3, .inl (c3, 24, .inl (fun _ => 0))), (q4, .inl (c4, 24, .inl (fun _ => 0))), (q5, .inl (c5, 96, .inl (fun _ => 0))), (q6, .inl (c6, 96, .inl (fun _ => 0))), (q7, .inl (c7, 96, .inl (fun _ => 0)))] H := hP
  have hD : va_D A [(h0, .inr (0, [.int (nI 7), .int (nI 7), .int 0, .ref q3, .ref q4, .ref q5, .ref q6, .ref q7, .null, .null, .null, .null, .int 0, .int 0, .int 0, .int 0, .null, .null, .null, .int 0, .int 0])), (q3, .inl (c3, 24, .inl (fun _ => 0))), (q4, .inl (c4, 24, .inl (fun _ => 0))), (q5, .inl (c5, 96, .inl (fun _ => 0))), (q6, .inl (c6, 96, .inl (fun _ => 0))), (q7, .inl (c7, 96, .inl (fun _ => 0)))] := hD
  refine lv_aload_n hx hb d_r_init_56 rfl (lv_at hl 0 rfl) ?_
  refine lv_sipush (v := nI 576) hx hb d_r_init_57 (by decide) ?_
  refine va_newa (atype := .int) (ty := .int) (n := nI 576) (N' := 576) (a0 := (576, .inl (fun _ => 0))) hx hb (hts _ q_arr_int) rfl hK hP hD hS hA (fun _ => rfl) (by decide) (by decide) (by decide) (Nat.le_of_ble_eq_true rfl) (Nat.le_of_ble_eq_true rfl) d_r_init_60 (fun q8 c8 H hK hP hD hS => ?_)
  have hK : va_K D classes [(c3, .int), (c4, .byte), (c5, .int), (c6, .int), (c7, .boolean), (c8, .int)] s := hK
  have hP : va_P D classes [(h0, .inr (0, [.int (nI 7), .int (nI 7), .int 0, .ref q3, .ref q4, .ref q5, .ref q6, .ref q7, .null, .null, .null, .null, .int 0, .int 0, .int 0, .int 0, .null, .null, .null, .int 0, .int 0])), (q3, .inl (c3, 24, .inl (fun _ => 0))), (q4, .inl (c4, 24, .inl (fun _ => 0))), (q5, .inl (c5, 96, .inl (fun _ => 0))), (q6, .inl (c6, 96, .inl (fun _ => 0))), (q7, .inl (c7, 96, .inl (fun _ => 0))), (q8, .inl (c8, 576, .inl (fun _ => 0)))] H := hP
  have hD : va_D A [(h0, .inr (0, [.int (nI 7), .int (nI 7), .int 0, .ref q3, .ref q4, .ref q5, .ref q6, .ref q7, .null, .null, .null, .null, .int 0, .int 0, .int 0, .int 0, .null, .null, .null, .int 0, .int 0])), (q3, .inl (c3, 24, .inl (fun _ => 0))), (q4, .inl (c4, 24, .inl (fun _ => 0))), (q5, .inl (c5, 96, .inl (fun _ => 0))), (q6, .inl (c6, 96, .inl (fun _ => 0))), (q7, .inl (c7, 96, .inl (fun _ => 0))), (q8, .inl (c8, 576, .inl (fun _ => 0)))] := hD
  refine W.widen (k := 6) (n := 912) (by omega) (by omega) ?_
  refine va_putF (D := D) (ci := 0) (v := .ref q8) (ty := (.array .int)) (C := R_rr) (T := F_rr) (N := 21) hx hb hts i_rr t_rr t_rr_ok n_rr hown hK hP hD hS 0 rfl rfl 8 (by decide) (hts _ q_rr_f8) (fun _ h9 => h9) rfl hin rfl (by decide +kernel) rfl rfl (Nat.le_of_ble_eq_true rfl) d_r_init_62 (fun H locs hP hD hS => ?_)
  have hP : va_P D classes [(h0, .inr (0, [.int (nI 7), .int (nI 7), .int 0, .ref q3, .ref q4, .ref q5, .ref q6, .ref q7, .ref q8, .null, .null, .null, .int 0, .int 0, .int 0, .int 0, .null, .null, .null, .int 0, .int 0])), (q3, .inl (c3, 24, .inl (fun _ => 0))), (q4, .inl (c4, 24, .inl (fun _ => 0))), (q5, .inl (c5, 96, .inl (fun _ => 0))), (q6, .inl (c6, 96, .inl (fun _ => 0))), (q7, .inl (c7, 96, .inl (fun _ => 0))), (q8, .inl (c8, 576, .inl (fun _ => 0)))] H := hP
  have hD : va_D A [(h0, .inr (0, [.int (nI 7), .int (nI 7), .int 0, .ref q3, .ref q4, .ref q5, .ref q6, .ref q7, .ref q8, .null, .null, .null, .int 0, .int 0, .int 0, .int 0, .null, .null, .null, .int 0, .int 0])), (q3, .inl (c3, 24, .inl (fun _ => 0))), (q4, .inl (c4, 24, .inl (fun _ => 0))), (q5, .inl (c5, 96, .inl (fun _ => 0))), (q6, .inl (c6, 96, .inl (fun _ => 0))), (q7, .inl (c7, 96, .inl (fun _ => 0))), (q8, .inl (c8, 576, .inl (fun _ => 0)))] := hD
  refine lv_aload_n hx hb d_r_init_65 rfl (lv_at hl 0 rfl) ?_
  refine lv_sipush (v := nI 576) hx hb d_r_init_66 (by decide) ?_
  refine va_newa (atype := .int) (ty := .int) (n := nI 576) (N' := 576) (a0 := (576, .inl (fun _ => 0))) hx hb (hts _ q_arr_int) rfl hK hP hD hS hA (fun _ => rfl) (by decide) (by decide) (by decide) (Nat.le_of_ble_eq_true rfl) (Nat.le_of_ble_eq_true rfl) d_r_init_69 (fun q9 c9 H hK hP hD hS => ?_)
  have hK : va_K D classes [(c3, .int), (c4, .byte), (c5, .int), (c6, .int), (c7, .boolean), (c8, .int), (c9, .int)] s := hK
  have hP : va_P D classes [(h0, .inr (0, [.int (nI 7), .int (nI 7), .int 0, .ref q3, .ref q4, .ref q5, .ref q6, .ref q7, .ref q8, .null, .null, .null, .int 0, .int 0, .int 0, .int 0, .null, .null, .null, .int 0, .int 0])), (q3, .inl (c3, 24, .inl (fun _ => 0))), (q4, .inl (c4, 24, .inl (fun _ => 0))), (q5, .inl (c5, 96, .inl (fun _ => 0))), (q6, .inl (c6, 96, .inl (fun _ => 0))), (q7, .inl (c7, 96, .inl (fun _ => 0))), (q8, .inl (c8, 576, .inl (fun _ => 0))), (q9, .inl (c9, 576, .inl (fun _ => 0)))] H := hP
  have hD : va_D A [(h0, .inr (0, [.int (nI 7), .int (nI 7), .int 0, .ref q3, .ref q4, .ref q5, .ref q6, .ref q7, .ref q8, .null, .null, .null, .int 0, .int 0, .int 0, .int 0, .null, .null, .null, .int 0, .int 0])), (q3, .inl (c3, 24, .inl (fun _ => 0))), (q4, .inl (c4, 24, .inl (fun _ => 0))), (q5, .inl (c5, 96, .inl (fun _ => 0))), (q6, .inl (c6, 96, .inl (fun _ => 0))), (q7, .inl (c7, 96, .inl (fun _ => 0))), (q8, .inl (c8, 576, .inl (fun _ => 0))), (q9, .inl (c9, 576, .inl (fun _ => 0)))] := hD
  refine W.widen (k := 7) (n := 1488) (by omega) (by omega) ?_
  refine va_putF (D := D) (ci := 0) (v := .ref q9) (ty := (.array .int)) (C := R_rr) (T := F_rr) (N := 21) hx hb hts i_rr t_rr t_rr_ok n_rr hown hK hP hD hS 0 rfl rfl 9 (by decide) (hts _ q_rr_f9) (fun _ h9 => h9) rfl hin rfl (by decide +kernel) rfl rfl (Nat.le_of_ble_eq_true rfl) d_r_init_71 (fun H locs hP hD hS => ?_)
  have hP : va_P D classes [(h0, .inr (0, [.int (nI 7), .int (nI 7), .int 0, .ref q3, .ref q4, .ref q5, .ref q6, .ref q7, .ref q8, .ref q9, .null, .null, .int 0, .int 0, .int 0, .int 0, .null, .null, .null, .int 0, .int 0])), (q3, .inl (c3, 24, .inl (fun _ => 0))), (q4, .inl (c4, 24, .inl (fun _ => 0))), (q5, .inl (c5, 96, .inl (fun _ => 0))), (q6, .inl (c6, 96, .inl (fun _ => 0))), (q7, .inl (c7, 96, .inl (fun _ => 0))), (q8, .inl (c8, 576, .inl (fun _ => 0))), (q9, .inl (c9, 576, .inl (fun _ => 0)))] H := hP
  have hD : va_D A [(h0, .inr (0, [.int (nI 7), .int (nI 7), .int 0, .ref q3, .ref q4, .ref q5, .ref q6, .ref q7, .ref q8, .ref q9, .null, .null, .int 0, .int 0, .int 0, .int 0, .null, .null, .null, .int 0, .int 0])), (q3, .inl (c3, 24, .inl (fun _ => 0))), (q4, .inl (c4, 24, .inl (fun _ => 0))), (q5, .inl (c5, 96, .inl (fun _ => 0))), (q6, .inl (c6, 96, .inl (fun _ => 0))), (q7, .inl (c7, 96, .inl (fun _ => 0))), (q8, .inl (c8, 576, .inl (fun _ => 0))), (q9, .inl (c9, 576, .inl (fun _ => 0)))] := hD
  refine lv_aload_n hx hb d_r_init_74 rfl (lv_at hl 0 rfl) ?_
  refine lv_sipush (v := nI 576) hx hb d_r_init_75 (by decide) ?_
  refine va_newa (atype := .boolean) (ty := .boolean) (n := nI 576) (N' := 576) (a0 := (576, .inl (fun _ => 0))) hx hb (hts _ q_arr_boolean) rfl hK hP hD hS hA (fun _ => rfl) (by decide) (by decide) (by decide) (Nat.le_of_ble_eq_true rfl) (Nat.le_of_ble_eq_true rfl) d_r_init_78 (fun q10 c10 H hK hP hD hS => ?_)
  have hK : va_K D classes [(c3, .int), (c4, .byte), (c5, .int), (c6, .int), (c7, .boolean), (c8, .int), (c9, .int), (c10, .boolean)] s := hK
  have hP : va_P D classes [(h0, .inr (0, [.int (nI 7), .int (nI 7), .int 0, .ref q3, .ref q4, .ref q5, .ref q6, .ref q7, .ref q8, .ref q9, .null, .null, .int 0, .int 0, .int 0, .int 0, .null, .null, .null, .int 0, .int 0])), (q3, .inl (c3, 24, .inl (fun _ => 0))), (q4, .inl (c4, 24, .inl (fun _ => 0))), (q5, .inl (c5, 96, .inl (fun _ => 0))), (q6, .inl (c6, 96, .inl (fun _ => 0))), (q7, .inl (c7, 96, .inl (fun _ => 0))), (q8, .inl (c8, 576, .inl (fun _ => 0))), (q9, .inl (c9, 576, .inl (fun _ => 0))), (q10, .inl (c10, 576, .inl (fun _ => 0)))] H := hP
  have hD : va_D A [(h0, .inr (0, [.int (nI 7), .int (nI 7), .int 0, .ref q3, .ref q4, .ref q5, .ref q6, .ref q7, .ref q8, .ref q9, .null, .null, .int 0, .int 0, .int 0, .int 0, .null, .null, .null, .int 0, .int 0])), (q3, .inl (c3, 24, .inl (fun _ => 0))), (q4, .inl (c4, 24, .inl (fun _ => 0))), (q5, .inl (c5, 96, .inl (fun _ => 0))), (q6, .inl (c6, 96, .inl (fun _ => 0))), (q7, .inl (c7, 96, .inl (fun _ => 0))), (q8, .inl (c8, 576, .inl (fun _ => 0))), (q9, .inl (c9, 576, .inl (fun _ => 0))), (q10, .inl (c10, 576, .inl (fun _ => 0)))] := hD
  refine W.widen (k := 8) (n := 2064) (by omega) (by omega) ?_
  refine va_putF (D := D) (ci := 0) (v := .ref q10) (ty := (.array .boolean)) (C := R_rr) (T := F_rr) (N := 21) hx hb hts i_rr t_rr t_rr_ok n_rr hown hK hP hD hS 0 rfl rfl 10 (by decide) (hts _ q_rr_f10) (fun _ h9 => h9) rfl hin rfl (by decide +kernel) rfl rfl (Nat.le_of_ble_eq_true rfl) d_r_init_80 (fun H locs hP hD hS => ?_)
  have hP : va_P D classes [(h0, .inr (0, [.int (nI 7), .int (nI 7), .int 0, .ref q3, .ref q4, .ref q5, .ref q6, .ref q7, .ref q8, .ref q9, .ref q10, .null, .int 0, .int 0, .int 0, .int 0, .null, .null, .null, .int 0, .int 0])), (q3, .inl (c3, 24, .inl (fun _ => 0))), (q4, .inl (c4, 24, .inl (fun _ => 0))), (q5, .inl (c5, 96, .inl (fun _ => 0))), (q6, .inl (c6, 96, .inl (fun _ => 0))), (q7, .inl (c7, 96, .inl (fun _ => 0))), (q8, .inl (c8, 576, .inl (fun _ => 0))), (q9, .inl (c9, 576, .inl (fun _ => 0))), (q10, .inl (c10, 576, .inl (fun _ => 0)))] H := hP
  have hD : va_D A [(h0, .inr (0, [.int (nI 7), .int (nI 7), .int 0, .ref q3, .ref q4, .ref q5, .ref q6, .ref q7, .ref q8, .ref q9, .ref q10, .null, .int 0, .int 0, .int 0, .int 0, .null, .null, .null, .int 0, .int 0])), (q3, .inl (c3, 24, .inl (fun _ => 0))), (q4, .inl (c4, 24, .inl (fun _ => 0))), (q5, .inl (c5, 96, .inl (fun _ => 0))), (q6, .inl (c6, 96, .inl (fun _ => 0))), (q7, .inl (c7, 96, .inl (fun _ => 0))), (q8, .inl (c8, 576, .inl (fun _ => 0))), (q9, .inl (c9, 576, .inl (fun _ => 0))), (q10, .inl (c10, 576, .inl (fun _ => 0)))] := hD
  refine lv_aload_n hx hb d_r_init_83 rfl (lv_at hl 0 rfl) ?_
  refine lv_iconst (v := nI 3) hx hb d_r_init_84 (by decide) ?_
  refine va_newa (atype := .byte) (ty := .byte) (n := nI 3) (N' := 3) (a0 := (3, .inl (fun _ => 0))) hx hb (hts _ q_arr_byte) rfl hK hP hD hS hA (fun _ => rfl) (by decide) (by decide) (by decide) (Nat.le_of_ble_eq_true rfl) (Nat.le_of_ble_eq_true rfl) d_r_init_85 (fun q11 c11 H hK hP hD hS => ?_)
  have hK : va_K D classes [(c3, .int), (c4, .byte), (c5, .int), (c6, .int), (c7, .boolean), (c8, .int), (c9, .int), (c10, .boolean), (c11, .byte)] s := hK
  have hP : va_P D classes [(h0, .inr (0, [.int (nI 7), .int (nI 7), .int 0, .ref q3, .ref q4, .ref q5, .ref q6, .ref q7, .ref q8, .ref q9, .ref q10, .null, .int 0, .int 0, .int 0, .int 0, .null, .null, .null, .int 0, .int 0])), (q3, .inl (c3, 24, .inl (fun _ => 0))), (q4, .inl (c4, 24, .inl (fun _ => 0))), (q5, .inl (c5, 96, .inl (fun _ => 0))), (q6, .inl (c6, 96, .inl (fun _ => 0))), (q7, .inl (c7, 96, .inl (fun _ => 0))), (q8, .inl (c8, 576, .inl (fun _ => 0))), (q9, .inl (c9, 576, .inl (fun _ => 0))), (q10, .inl (c10, 576, .inl (fun _ => 0))), (q11, .inl (c11, 3, .inl (fun _ => 0)))] H := hP
  have hD : va_D A [(h0, .inr (0, [.int (nI 7), .int (nI 7), .int 0, .ref q3, .ref q4, .ref q5, .ref q6, .ref q7, .ref q8, .ref q9, .ref q10, .null, .int 0, .int 0, .int 0, .int 0, .null, .null, .null, .int 0, .int 0])), (q3, .inl (c3, 24, .inl (fun _ => 0))), (q4, .inl (c4, 24, .inl (fun _ => 0))), (q5, .inl (c5, 96, .inl (fun _ => 0))), (q6, .inl (c6, 96, .inl (fun _ => 0))), (q7, .inl (c7, 96, .inl (fun _ => 0))), (q8, .inl (c8, 576, .inl (fun _ => 0))), (q9, .inl (c9, 576, .inl (fun _ => 0))), (q10, .inl (c10, 576, .inl (fun _ => 0))), (q11, .inl (c11, 3, .inl (fun _ => 0)))] := hD
  refine W.widen (k := 9) (n := 2067) (by omega) (by omega) ?_
  refine va_putF (D := D) (ci := 0) (v := .ref q11) (ty := (.array .byte)) (C := R_rr) (T := F_rr) (N := 21) hx hb hts i_rr t_rr t_rr_ok n_rr hown hK hP hD hS 0 rfl rfl 11 (by decide) (hts _ q_rr_f11) (fun _ h9 => h9) rfl hin rfl (by decide +kernel) rfl rfl (Nat.le_of_ble_eq_true rfl) d_r_init_87 (fun H locs hP hD hS => ?_)
  have hP : va_P D classes [(h0, .inr (0, [.int (nI 7), .int (nI 7), .int 0, .ref q3, .ref q4, .ref q5, .ref q6, .ref q7, .ref q8, .ref q9, .ref q10, .ref q11, .int 0, .int 0, .int 0, .int 0, .null, .null, .null, .int 0, .int 0])), (q3, .inl (c3, 24, .inl (fun _ => 0))), (q4, .inl (c4, 24, .inl (fun _ => 0))), (q5, .inl (c5, 96, .inl (fun _ => 0))), (q6, .inl (c6, 96, .inl (fun _ => 0))), (q7, .inl (c7, 96, .inl (fun _ => 0))), (q8, .inl (c8, 576, .inl (fun _ => 0))), (q9, .inl (c9, 576, .inl (fun _ => 0))), (q10, .inl (c10, 576, .inl (fun _ => 0))), (q11, .inl (c11, 3, .inl (fun _ => 0)))] H := hP
  have hD : va_D A [(h0, .inr (0, [.int (nI 7), .int (nI 7), .int 0, .ref q3, .ref q4, .ref q5, .ref q6, .ref q7, .ref q8, .ref q9, .ref q10, .ref q11, .int 0, .int 0, .int 0, .int 0, .null, .null, .null, .int 0, .int 0])), (q3, .inl (c3, 24, .inl (fun _ => 0))), (q4, .inl (c4, 24, .inl (fun _ => 0))), (q5, .inl (c5, 96, .inl (fun _ => 0))), (q6, .inl (c6, 96, .inl (fun _ => 0))), (q7, .inl (c7, 96, .inl (fun _ => 0))), (q8, .inl (c8, 576, .inl (fun _ => 0))), (q9, .inl (c9, 576, .inl (fun _ => 0))), (q10, .inl (c10, 576, .inl (fun _ => 0))), (q11, .inl (c11, 3, .inl (fun _ => 0)))] := hD
  refine lv_aload_n hx hb d_r_init_90 rfl (lv_at hl 0 rfl) ?_
  refine lv_bipush (v := nI 31) hx hb d_r_init_91 (by decide) ?_
  refine va_newa (atype := .int) (ty := .int) (n := nI 31) (N' := 31) (a0 := (31, .inl (fun _ => 0))) hx hb (hts _ q_arr_int) rfl hK hP hD hS hA (fun _ => rfl) (by decide) (by decide) (by decide) (Nat.le_of_ble_eq_true rfl) (Nat.le_of_ble_eq_true rfl) d_r_init_93 (fun q16 c16 H hK hP hD hS => ?_)
  have hK : va_K D classes [(c3, .int), (c4, .byte), (c5, .int), (c6, .int), (c7, .boolean), (c8, .int), (c9, .int), (c10, .boolean), (c11, .byte), (c16, .int)] s := hK
  have hP : va_P D classes [(h0, .inr (0, [.int (nI 7), .int (nI 7), .int 0, .ref q3, .ref q4, .ref q5, .ref q6, .ref q7, .ref q8, .ref q9, .ref q10, .ref q11, .int 0, .int 0, .int 0, .int 0, .null, .null, .null, .int 0, .int 0])), (q3, .inl (c3, 24, .inl (fun _ => 0))), (q4, .inl (c4, 24, .inl (fun _ => 0))), (q5, .inl (c5, 96, .inl (fun _ => 0))), (q6, .inl (c6, 96, .inl (fun _ => 0))), (q7, .inl (c7, 96, .inl (fun _ => 0))), (q8, .inl (c8, 576, .inl (fun _ => 0))), (q9, .inl (c9, 576, .inl (fun _ => 0))), (q10, .inl (c10, 576, .inl (fun _ => 0))), (q11, .inl (c11, 3, .inl (fun _ => 0))), (q16, .inl (c16, 31, .inl (fun _ => 0)))] H := hP
  have hD : va_D A [(h0, .inr (0, [.int (nI 7), .int (nI 7), .int 0, .ref q3, .ref q4, .ref q5, .ref q6, .ref q7, .ref q8, .ref q9, .ref q10, .ref q11, .int 0, .int 0, .int 0, .int 0, .null, .null, .null, .int 0, .int 0])), (q3, .inl (c3, 24, .inl (fun _ => 0))), (q4, .inl (c4, 24, .inl (fun _ => 0))), (q5, .inl (c5, 96, .inl (fun _ => 0))), (q6, .inl (c6, 96, .inl (fun _ => 0))), (q7, .inl (c7, 96, .inl (fun _ => 0))), (q8, .inl (c8, 576, .inl (fun _ => 0))), (q9, .inl (c9, 576, .inl (fun _ => 0))), (q10, .inl (c10, 576, .inl (fun _ => 0))), (q11, .inl (c11, 3, .inl (fun _ => 0))), (q16, .inl (c16, 31, .inl (fun _ => 0)))] := hD
  refine W.widen (k := 10) (n := 2098) (by omega) (by omega) ?_
  refine va_putF (D := D) (ci := 0) (v := .ref q16) (ty := (.array .int)) (C := R_rr) (T := F_rr) (N := 21) hx hb hts i_rr t_rr t_rr_ok n_rr hown hK hP hD hS 0 rfl rfl 16 (by decide) (hts _ q_rr_f16) (fun _ h9 => h9) rfl hin rfl (by decide +kernel) rfl rfl (Nat.le_of_ble_eq_true rfl) d_r_init_95 (fun H locs hP hD hS => ?_)
  have hP : va_P D classes [(h0, .inr (0, [.int (nI 7), .int (nI 7), .int 0, .ref q3, .ref q4, .ref q5, .ref q6, .ref q7, .ref q8, .ref q9, .ref q10, .ref q11, .int 0, .int 0, .int 0, .int 0, .ref q16, .null, .null, .int 0, .int 0])), (q3, .inl (c3, 24, .inl (fun _ => 0))), (q4, .inl (c4, 24, .inl (fun _ => 0))), (q5, .inl (c5, 96, .inl (fun _ => 0))), (q6, .inl (c6, 96, .inl (fun _ => 0))), (q7, .inl (c7, 96, .inl (fun _ => 0))), (q8, .inl (c8, 576, .inl (fun _ => 0))), (q9, .inl (c9, 576, .inl (fun _ => 0))), (q10, .inl (c10, 576, .inl (fun _ => 0))), (q11, .inl (c11, 3, .inl (fun _ => 0))), (q16, .inl (c16, 31, .inl (fun _ => 0)))] H := hP
  have hD : va_D A [(h0, .inr (0, [.int (nI 7), .int (nI 7), .int 0, .ref q3, .ref q4, .ref q5, .ref q6, .ref q7, .ref q8, .ref q9, .ref q10, .ref q11, .int 0, .int 0, .int 0, .int 0, .ref q16, .null, .null, .int 0, .int 0])), (q3, .inl (c3, 24, .inl (fun _ => 0))), (q4, .inl (c4, 24, .inl (fun _ => 0))), (q5, .inl (c5, 96, .inl (fun _ => 0))), (q6, .inl (c6, 96, .inl (fun _ => 0))), (q7, .inl (c7, 96, .inl (fun _ => 0))), (q8, .inl (c8, 576, .inl (fun _ => 0))), (q9, .inl (c9, 576, .inl (fun _ => 0))), (q10, .inl (c10, 576, .inl (fun _ => 0))), (q11, .inl (c11, 3, .inl (fun _ => 0))), (q16, .inl (c16, 31, .inl (fun _ => 0)))] := hD
  refine lv_aload_n hx hb d_r_init_98 rfl (lv_at hl 0 rfl) ?_
  refine lv_bipush (v := nI 31) hx hb d_r_init_99 (by decide) ?_
  refine va_newa (atype := .int) (ty := .int) (n := nI 31) (N' := 31) (a0 := (31, .inl (fun _ => 0))) hx hb (hts _ q_arr_int) rfl hK hP hD hS hA (fun _ => rfl) (by decide) (by decide) (by decide) (Nat.le_of_ble_eq_true rfl) (Nat.le_of_ble_eq_true rfl) d_r_init_101 (fun q17 c17 H hK hP hD hS => ?_)
  have hK : va_K D classes [(c3, .int), (c4, .byte), (c5, .int), (c6, .int), (c7, .boolean), (c8, .int), (c9, .int), (c10, .boolean), (c11, .byte), (c16, .int), (c17, .int)] s := hK
  have hP : va_P D classes [(h0, .inr (0, [.int (nI 7), .int (nI 7), .int 0, .ref q3, .ref q4, .ref q5, .ref q6, .ref q7, .ref q8, .ref q9, .ref q10, .ref q11, .int 0, .int 0, .int 0, .int 0, .ref q16, .null, .null, .int 0, .int 0])), (q3, .inl (c3, 24, .inl (fun _ => 0))), (q4, .inl (c4, 24, .inl (fun _ => 0))), (q5, .inl (c5, 96, .inl (fun _ => 0))), (q6, .inl (c6, 96, .inl (fun _ => 0))), (q7, .inl (c7, 96, .inl (fun _ => 0))), (q8, .inl (c8, 576, .inl (fun _ => 0))), (q9, .inl (c9, 576, .inl (fun _ => 0))), (q10, .inl (c10, 576, .inl (fun _ => 0))), (q11, .inl (c11, 3, .inl (fun _ => 0))), (q16, .inl (c16, 31, .inl (fun _ => 0))), (q17, .inl (c17, 31, .inl (fun _ => 0)))] H := hP
  have hD : va_D A [(h0, .inr (0, [.int (nI 7), .int (nI 7), .int 0, .ref q3, .ref q4, .ref q5, .ref q6, .ref q7, .ref q8, .ref q9, .ref q10, .ref q11, .int 0, .int 0, .int 0, .int 0, .ref q16, .null, .null, .int 0, .int 0])), (q3, .inl (c3, 24, .inl (fun _ => 0))), (q4, .inl (c4, 24, .inl (fun _ => 0))), (q5, .inl (c5, 96, .inl (fun _ => 0))), (q6, .inl (c6, 96, .inl (fun _ => 0))), (q7, .inl (c7, 96, .inl (fun _ => 0))), (q8, .inl (c8, 576, .inl (fun _ => 0))), (q9, .inl (c9, 576, .inl (fun _ => 0))), (q10, .inl (c10, 576, .inl (fun _ => 0))), (q11, .inl (c11, 3, .inl (fun _ => 0))), (q16, .inl (c16, 31, .inl (fun _ => 0))), (q17, .inl (c17, 31, .inl (fun _ => 0)))] := hD
  refine W.widen (k := 11) (n := 2129) (by omega) (by omega) ?_
  refine va_putF (D := D) (ci := 0) (v := .ref q17) (ty := (.array .int)) (C := R_rr) (T := F_rr) (N := 21) hx hb hts i_rr t_rr t_rr_ok n_rr hown hK hP hD hS 0 rfl rfl 17 (by decide) (hts _ q_rr_f17) (fun _ h9 => h9) rfl hin rfl (by decide +kernel) rfl rfl (Nat.le_of_ble_eq_true rfl) d_r_init_103 (fun H locs hP hD hS => ?_)
  have hP : va_P D classes [(h0, .inr (0, [.int (nI 7), .int (nI 7), .int 0, .ref q3, .ref q4, .ref q5, .ref q6, .ref q7, .ref q8, .ref q9, .ref q10, .ref q11, .int 0, .int 0, .int 0, .int 0, .ref q16, .ref q17, .null, .int 0, .int 0])), (q3, .inl (c3, 24, .inl (fun _ => 0))), (q4, .inl (c4, 24, .inl (fun _ => 0))), (q5, .inl (c5, 96, .inl (fun _ => 0))), (q6, .inl (c6, 96, .inl (fun _ => 0))), (q7, .inl (c7, 96, .inl (fun _ => 0))), (q8, .inl (c8, 576, .inl (fun _ => 0))), (q9, .inl (c9, 576, .inl (fun _ => 0))), (q10, .inl (c10, 576, .inl (fun _ => 0))), (q11, .inl (c11, 3, .inl (fun _ => 0))), (q16, .inl (c16, 31, .inl (fun _ => 0))), (q17, .inl (c17, 31, .inl (fun _ => 0)))] H := hP
  have hD : va_D A [(h0, .inr (0, [.int (nI 7), .int (nI 7), .int 0, .ref q3, .ref q4, .ref q5, .ref q6, .ref q7, .ref q8, .ref q9, .ref q10, .ref q11, .int 0, .int 0, .int 0, .int 0, .ref q16, .ref q17, .null, .int 0, .int 0])), (q3, .inl (c3, 24, .inl (fun _ => 0))), (q4, .inl (c4, 24, .inl (fun _ => 0))), (q5, .inl (c5, 96, .inl (fun _ => 0))), (q6, .inl (c6, 96, .inl (fun _ => 0))), (q7, .inl (c7, 96, .inl (fun _ => 0))), (q8, .inl (c8, 576, .inl (fun _ => 0))), (q9, .inl (c9, 576, .inl (fun _ => 0))), (q10, .inl (c10, 576, .inl (fun _ => 0))), (q11, .inl (c11, 3, .inl (fun _ => 0))), (q16, .inl (c16, 31, .inl (fun _ => 0))), (q17, .inl (c17, 31, .inl (fun _ => 0)))] := hD
  refine lv_aload_n hx hb d_r_init_106 rfl (lv_at hl 0 rfl) ?_
  refine lv_bipush (v := nI 31) hx hb d_r_init_107 (by decide) ?_
  refine va_newa (atype := .boolean) (ty := .boolean) (n := nI 31) (N' := 31) (a0 := (31, .inl (fun _ => 0))) hx hb (hts _ q_arr_boolean) rfl hK hP hD hS hA (fun _ => rfl) (by decide) (by decide) (by decide) (Nat.le_of_ble_eq_true rfl) (Nat.le_of_ble_eq_true rfl) d_r_init_109 (fun q18 c18 H hK hP hD hS => ?_)
  have hK : va_K D classes [(c3, .int), (c4, .byte), (c5, .int), (c6, .int), (c7, .boolean), (c8, .int), (c9, .int), (c10, .boolean), (c11, .byte), (c16, .int), (c17, .int), (c18, .boolean)] s := hK
  have hP : va_P D classes [(h0, .inr (0, [.int (nI 7), .int (nI 7), .int 0, .ref q3, .ref q4, .ref q5, .ref q6, .ref q7, .ref q8, .ref q9, .ref q10, .ref q11, .int 0, .int 0, .int 0, .int 0, .ref q16, .ref q17, .null, .int 0, .int 0])), (q3, .inl (c3, 24, .inl (fun _ => 0))), (q4, .inl (c4, 24, .inl (fun _ => 0))), (q5, .inl (c5, 96, .inl (fun _ => 0))), (q6, .inl (c6, 96, .inl (fun _ => 0))), (q7, .inl (c7, 96, .inl (fun _ => 0))), (q8, .inl (c8, 576, .inl (fun _ => 0))), (q9, .inl (c9, 576, .inl (fun _ => 0))), (q10, .inl (c10, 576, .inl (fun _ => 0))), (q11, .inl (c11, 3, .inl (fun _ => 0))), (q16, .inl (c16, 31, .inl (fun _ => 0))), (q17, .inl (c17, 31, .inl (fun _ => 0))), (q18, .inl (c18, 31, .inl (fun _ => 0)))] H := hP
  have hD : va_D A [(h0, .inr (0, [.int (nI 7), .int (nI 7), .int 0, .ref q3, .ref q4, .ref q5, .ref q6, .ref q7, .ref q8, .ref q9, .ref q10, .ref q11, .int 0, .int 0, .int 0, .int 0, .ref q16, .ref q17, .null, .int 0, .int 0])), (q3, .inl (c3, 24, .inl (fun _ => 0))), (q4, .inl (c4, 24, .inl (fun _ => 0))), (q5, .inl (c5, 96, .inl (fun _ => 0))), (q6, .inl (c6, 96, .inl (fun _ => 0))), (q7, .inl (c7, 96, .inl (fun _ => 0))), (q8, .inl (c8, 576, .inl (fun _ => 0))), (q9, .inl (c9, 576, .inl (fun _ => 0))), (q10, .inl (c10, 576, .inl (fun _ => 0))), (q11, .inl (c11, 3, .inl (fun _ => 0))), (q16, .inl (c16, 31, .inl (fun _ => 0))), (q17, .inl (c17, 31, .inl (fun _ => 0))), (q18, .inl (c18, 31, .inl (fun _ => 0)))] := hD
  refine W.widen (k := 12) (n := 2160) (by omega) (by omega) ?_
  refine va_putF (D := D) (ci := 0) (v := .ref q18) (ty := (.array .boolean)) (C := R_rr) (T := F_rr) (N := 21) hx hb hts i_rr t_rr t_rr_ok n_rr hown hK hP hD hS 0 rfl rfl 18 (by decide) (hts _ q_rr_f18) (fun _ h9 => h9) rfl hin rfl (by decide +kernel) rfl rfl (Nat.le_of_ble_eq_true rfl) d_r_init_111 (fun H locs hP hD hS => ?_)
  have hP : va_P D classes [(h0, .inr (0, [.int (nI 7), .int (nI 7), .int 0, .ref q3, .ref q4, .ref q5, .ref q6, .ref q7, .ref q8, .ref q9, .ref q10, .ref q11, .int 0, .int 0, .int 0, .int 0, .ref q16, .ref q17, .ref q18, .int 0, .int 0])), (q3, .inl (c3, 24, .inl (fun _ => 0))), (q4, .inl (c4, 24, .inl (fun _ => 0))), (q5, .inl (c5, 96, .inl (fun _ => 0))), (q6, .inl (c6, 96, .inl (fun _ => 0))), (q7, .inl (c7, 96, .inl (fun _ => 0))), (q8, .inl (c8, 576, .inl (fun _ => 0))), (q9, .inl (c9, 576, .inl (fun _ => 0))), (q10, .inl (c10, 576, .inl (fun _ => 0))), (q11, .inl (c11, 3, .inl (fun _ => 0))), (q16, .inl (c16, 31, .inl (fun _ => 0))), (q17, .inl (c17, 31, .inl (fun _ => 0))), (q18, .inl (c18, 31, .inl (fun _ => 0)))] H := hP
  have hD : va_D A [(h0, .inr (0, [.int (nI 7), .int (nI 7), .int 0, .ref q3, .ref q4, .ref q5, .ref q6, .ref q7, .ref q8, .ref q9, .ref q10, .ref q11, .int 0, .int 0, .int 0, .int 0, .ref q16, .ref q17, .ref q18, .int 0, .int 0])), (q3, .inl (c3, 24, .inl (fun _ => 0))), (q4, .inl (c4, 24, .inl (fun _ => 0))), (q5, .inl (c5, 96, .inl (fun _ => 0))), (q6, .inl (c6, 96, .inl (fun _ => 0))), (q7, .inl (c7, 96, .inl (fun _ => 0))), (q8, .inl (c8, 576, .inl (fun _ => 0))), (q9, .inl (c9, 576, .inl (fun _ => 0))), (q10, .inl (c10, 576, .inl (fun _ => 0))), (q11, .inl (c11, 3, .inl (fun _ => 0))), (q16, .inl (c16, 31, .inl (fun _ => 0))), (q17, .inl (c17, 31, .inl (fun _ => 0))), (q18, .inl (c18, 31, .inl (fun _ => 0)))] := hD
  refine lv_aload_n hx hb d_r_init_114 rfl (lv_at hl 0 rfl) ?_
  obtain ⟨ad, had⟩ : ∃ z : Nat → Nat, z = fun j => [h0, 0, 0, q3, q4, q5, q6, q7, q8, q9, q10, q11, 0, 0, 0, 0, q16, q17, q18].getD j 0 := ⟨_, rfl⟩
  obtain ⟨cs, hcs⟩ : ∃ z : Nat → ClassId, z = fun j => [c3, c3, c3, c3, c4, c5, c6, c7, c8, c9, c10, c11, c3, c3, c3, c3, c16, c17, c18].getD j c3 := ⟨_, rfl⟩
  have hw : rW wr tr_ D ad cs A s sI H locs := by subst had hcs; exact ⟨hK, hP, hD, hS, hA⟩
  have h00 : ad 0 = h0 := by rw [had]; rfl
  refine r_callv (rest := []) ⟨hx, hb, hml, hown, hts⟩ hw k_r_r_layRing (c_r_layRing l 7 (by decide)) rfl rfl rfl ⟨by decide, by decide⟩ rfl hl.1 (by rw [h00]; rfl) (Nat.le_of_ble_eq_true rfl) ⟨Nat.le_of_ble_eq_true rfl, Nat.le_of_ble_eq_true rfl⟩ d_r_init_115 (fun σ1 H locs hq hw => ?_)
  exact W.vret hx hb hr (fun t ht hW => ⟨⟨(ad, cs, σ1), rfl, ⟨h00, init_inv hq.1 hq.2⟩, by rw [ht]; exact hw.2.1, va_K.moved hW.alike hw.1, hw.2.2.1⟩, hw.2.2.2.1.F ht⟩) hw.2.2.2.1.2.2 d_r_init_118 hlk

set_option maxHeartbeats 8000000 in
set_option maxRecDepth 100000 in
theorem c_m_init (l : Launch) (D : va_G) (h0 sz : Nat) : Met l y_m_init w_m_init { frames := 1, cells := 3, slots := 48, locals := 32 } (va_Pc [.ref h0] (fun U => U.heap.size = sz ∧ va_P D classes [(h0, .inr (1, [.null, .null, .null, .int 0, .int 0]))] U.heap ∧ va_K D classes [] U ∧ va_D (fun _ => True) [(h0, .inr (1, [.null, .null, .null, .int 0, .int 0]))])) (va_Qv (fun u : (Nat → Nat) × (Nat → ClassId) × St => u.1 0 = h0 ∧ u.2.2 = mI) (fun u t => rB wm tm_ D u.1 u.2.1 (va_A [(h0, .inr (1, [.null, .null, .null, .int 0, .int 0]))] sz) u.2.2 t) (va_A [(h0, .inr (1, [.null, .null, .null, .int 0, .int 0]))] sz)) 3 48 (va_A [(h0, .inr (1, [.null, .null, .null, .int 0, .int 0]))] sz) := by
  refine Met.ofW (cc := b_m_init) (maxL := 1) (ret := none) (by decide) rfl ?_
  intro p e s m args below meth c s₁ B hml hv
  obtain ⟨rfl, hsz, hP, hK, hD0⟩ := hv
  have hx := B.exec
  have hb := B.bytes
  have hr := B.returns
  have hlk := B.notSynchronized
  have hts0 := atoms_spec (ws := w_m_init) B.pre
  have hts : ∀ w ∈ gw_tbl, w.before _ s = true := fun w hw => hts0 w (List.mem_cons_of_mem _ hw)
  have hown : s.vm.findClass R_md = some m.cls := findClass_of_methodNamed B.named
  have hin : meth.name = "<init>" := (name_of_methodNamed B.named B.method).1
  subst hsz
  have hD := hD0.self (sz := s.heap.size)
  generalize hAe : va_A [(h0, .inr (1, [.null, .null, .null, .int 0, .int 0]))] s.heap.size = A at hD ⊢
  have hA : ∀ q : Nat, s.heap.size ≤ q → A q := fun q h => by rw [← hAe]; exact Or.inr h
  have hS : va_S A s.heap s.heap [] := va_S.rf
  have hl := lv_entry ([.ref h0]) (n := 1) (Nat.le_of_ble_eq_true rfl)
  rw [lg_entry_eq]
  generalize (lg_sl ([.ref h0]) ++ List.replicate (1 - (lg_sl ([.ref h0])).length) Slot.unset).toArray = ls at hl ⊢
  have hl : lv_has ls 1 [(0, .ref h0)] := hl
  refine lv_aload_n hx hb d_m_init_0 rfl (lv_at hl 0 rfl) ?_
  refine W.objInit hx hb hown (hts _ q_link_m_obj) (hts _ q_inst_obj) (hts _ q_code_obj) rfl (by rw [hml]; exact hl.1) rfl d_m_init_1 (Nat.le_of_ble_eq_true rfl) (Nat.le_of_ble_eq_true rfl) ?_
  refine W.eq (g2 := F0 m 4 ls []) rfl ?_
  refine lv_aload_n hx hb d_m_init_4 rfl (lv_at hl 0 rfl) ?_
  refine lv_bipush (v := nI 16) hx hb d_m_init_5 (by decide) ?_
  refine va_newa (atype := .int) (ty := .int) (n := nI 16) (N' := 16) (a0 := (16, .inl (fun _ => 0))) hx hb (hts _ q_arr_int) rfl hK hP hD hS hA (fun _ => rfl) (by decide) (by decide) (by decide) (Nat.le_of_ble_eq_true rfl) (Nat.le_of_ble_eq_true rfl) d_m_init_7 (fun q1 c1 H hK hP hD hS => ?_)
  have hK : va_K D classes [(c1, .int)] s := hK
  have hP : va_P D classes [(h0, .inr (1, [.null, .null, .null, .int 0, .int 0])), (q1, .inl (c1, 16, .inl (fun _ => 0)))] H := hP
  have hD : va_D A [(h0, .inr (1, [.null, .null, .null, .int 0, .int 0])), (q1, .inl (c1, 16, .inl (fun _ => 0)))] := hD
  refine W.widen (k := 1) (n := 16) (by omega) (by omega) ?_
  refine va_put (D := D) (ci := 1) (v := .ref q1) (ty := (.array .int)) (C := R_md) (T := F_md) (N := 5) hx hb hts i_md t_md t_md_ok n_md hown hK hP hD hS 0 rfl rfl 0 (by decide) (hts _ q_md_f0) (fun _ h9 => h9) rfl (by decide +kernel) rfl rfl (Nat.le_of_ble_eq_true rfl) d_m_init_9 (fun H locs hP hD hS => ?_)
  have hP : va_P D classes [(h0, .inr (1, [.ref q1, .null, .null, .int 0, .int 0])), (q1, .inl (c1, 16, .inl (fun _ => 0)))] H := hP
  have hD : va_D A [(h0, .inr (1, [.ref q1, .null, .null, .int 0, .int 0])), (q1, .inl (c1, 16, .inl (fun _ => 0)))] := hD
  refine lv_aload_n hx hb d_m_init_12 rfl (lv_at hl 0 rfl) ?_
  refine lv_bipush (v := nI 16) hx hb d_m_init_13 (by decide) ?_
  refine va_newa (atype := .boolean) (ty := .boolean) (n := nI 16) (N' := 16) (a0 := (16, .inl (fun _ => 0))) hx hb (hts _ q_arr_boolean) rfl hK hP hD hS hA (fun _ => rfl) (by decide) (by decide) (by decide) (Nat.le_of_ble_eq_true rfl) (Nat.le_of_ble_eq_true rfl) d_m_init_15 (fun q2 c2 H hK hP hD hS => ?_)
  have hK : va_K D classes [(c1, .int), (c2, .boolean)] s := hK
  have hP : va_P D classes [(h0, .inr (1, [.ref q1, .null, .null, .int 0, .int 0])), (q1, .inl (c1, 16, .inl (fun _ => 0))), (q2, .inl (c2, 16, .inl (fun _ => 0)))] H := hP
  have hD : va_D A [(h0, .inr (1, [.ref q1, .null, .null, .int 0, .int 0])), (q1, .inl (c1, 16, .inl (fun _ => 0))), (q2, .inl (c2, 16, .inl (fun _ => 0)))] := hD
  refine W.widen (k := 2) (n := 32) (by omega) (by omega) ?_
  refine va_put (D := D) (ci := 1) (v := .ref q2) (ty := (.array .boolean)) (C := R_md) (T := F_md) (N := 5) hx hb hts i_md t_md t_md_ok n_md hown hK hP hD hS 0 rfl rfl 1 (by decide) (hts _ q_md_f1) (fun _ h9 => h9) rfl (by decide +kernel) rfl rfl (Nat.le_of_ble_eq_true rfl) d_m_init_17 (fun H locs hP hD hS => ?_)
  have hP : va_P D classes [(h0, .inr (1, [.ref q1, .ref q2, .null, .int 0, .int 0])), (q1, .inl (c1, 16, .inl (fun _ => 0))), (q2, .inl (c2, 16, .inl (fun _ => 0)))] H := hP
  have hD : va_D A [(h0, .inr (1, [.ref q1, .ref q2, .null, .int 0, .int 0])), (q1, .inl (c1, 16, .inl (fun _ => 0))), (q2, .inl (c2, 16, .inl (fun _ => 0)))] := hD
  refine lv_aload_n hx hb d_m_init_20 rfl (lv_at hl 0 rfl) ?_
  refine lv_bipush (v := nI 16) hx hb d_m_init_21 (by decide) ?_
  refine va_newa (atype := .int) (ty := .int) (n := nI 16) (N' := 16) (a0 := (16, .inl (fun _ => 0))) hx hb (hts _ q_arr_int) rfl hK hP hD hS hA (fun _ => rfl) (by decide) (by decide) (by decide) (Nat.le_of_ble_eq_true rfl) (Nat.le_of_ble_eq_true rfl) d_m_init_23 (fun q3 c3 H hK hP hD hS => ?_)
  have hK : va_K D classes [(c1, .int), (c2, .boolean), (c3, .int)] s := hK
  have hP : va_P D classes [(h0, .inr (1, [.ref q1, .ref q2, .null, .int 0, .int 0])), (q1, .inl (c1, 16, .inl (fun _ => 0))), (q2, .inl (c2, 16, .inl (fun _ => 0))), (q3, .inl (c3, 16, .inl (fun _ => 0)))] H := hP
  have hD : va_D A [(h0, .inr (1, [.ref q1, .ref q2, .null, .int 0, .int 0])), (q1, .inl (c1, 16, .inl (fun _ => 0))), (q2, .inl (c2, 16, .inl (fun _ => 0))), (q3, .inl (c3, 16, .inl (fun _ => 0)))] := hD
  refine W.widen (k := 3) (n := 48) (by omega) (by omega) ?_
  refine va_put (D := D) (ci := 1) (v := .ref q3) (ty := (.array .int)) (C := R_md) (T := F_md) (N := 5) hx hb hts i_md t_md t_md_ok n_md hown hK hP hD hS 0 rfl rfl 2 (by decide) (hts _ q_md_f2) (fun _ h9 => h9) rfl (by decide +kernel) rfl rfl (Nat.le_of_ble_eq_true rfl) d_m_init_25 (fun H locs hP hD hS => ?_)
  have hP : va_P D classes [(h0, .inr (1, [.ref q1, .ref q2, .ref q3, .int 0, .int 0])), (q1, .inl (c1, 16, .inl (fun _ => 0))), (q2, .inl (c2, 16, .inl (fun _ => 0))), (q3, .inl (c3, 16, .inl (fun _ => 0)))] H := hP
  have hD : va_D A [(h0, .inr (1, [.ref q1, .ref q2, .ref q3, .int 0, .int 0])), (q1, .inl (c1, 16, .inl (fun _ => 0))), (q2, .inl (c2, 16, .inl (fun _ => 0))), (q3, .inl (c3, 16, .inl (fun _ => 0)))] := hD
  refine lv_aload_n hx hb d_m_init_28 rfl (lv_at hl 0 rfl) ?_
  refine lv_bipush (v := nI 7) hx hb d_m_init_29 (by decide) ?_
  refine va_put (D := D) (ci := 1) (v := .int (nI 7)) (ty := .int) (C := R_md) (T := F_md) (N := 5) hx hb hts i_md t_md t_md_ok n_md hown hK hP hD hS 0 rfl rfl 3 (by decide) (hts _ q_md_f3) (fun _ h9 => h9) rfl (by decide +kernel) rfl rfl (Nat.le_of_ble_eq_true rfl) d_m_init_31 (fun H locs hP hD hS => ?_)
  have hP : va_P D classes [(h0, .inr (1, [.ref q1, .ref q2, .ref q3, .int (nI 7), .int 0])), (q1, .inl (c1, 16, .inl (fun _ => 0))), (q2, .inl (c2, 16, .inl (fun _ => 0))), (q3, .inl (c3, 16, .inl (fun _ => 0)))] H := hP
  have hD : va_D A [(h0, .inr (1, [.ref q1, .ref q2, .ref q3, .int (nI 7), .int 0])), (q1, .inl (c1, 16, .inl (fun _ => 0))), (q2, .inl (c2, 16, .inl (fun _ => 0))), (q3, .inl (c3, 16, .inl (fun _ => 0)))] := hD
  refine lv_aload_n hx hb d_m_init_34 rfl (lv_at hl 0 rfl) ?_
  refine lv_iconst (v := (-1)) hx hb d_m_init_35 (by decide) ?_
  refine va_put (D := D) (ci := 1) (v := .int (-1)) (ty := .int) (C := R_md) (T := F_md) (N := 5) hx hb hts i_md t_md t_md_ok n_md hown hK hP hD hS 0 rfl rfl 4 (by decide) (hts _ q_md_f4) (fun _ h9 => h9) rfl (by decide +kernel) rfl rfl (Nat.le_of_ble_eq_true rfl) d_m_init_36 (fun H locs hP hD hS => ?_)
  have hP : va_P D classes [(h0, .inr (1, [.ref q1, .ref q2, .ref q3, .int (nI 7), .int (-1)])), (q1, .inl (c1, 16, .inl (fun _ => 0))), (q2, .inl (c2, 16, .inl (fun _ => 0))), (q3, .inl (c3, 16, .inl (fun _ => 0)))] H := hP
  have hD : va_D A [(h0, .inr (1, [.ref q1, .ref q2, .ref q3, .int (nI 7), .int (-1)])), (q1, .inl (c1, 16, .inl (fun _ => 0))), (q2, .inl (c2, 16, .inl (fun _ => 0))), (q3, .inl (c3, 16, .inl (fun _ => 0)))] := hD
  obtain ⟨ad, had⟩ : ∃ z : Nat → Nat, z = fun j => [h0, q1, q2, q3].getD j 0 := ⟨_, rfl⟩
  obtain ⟨cs, hcs⟩ : ∃ z : Nat → ClassId, z = fun j => [c1, c1, c2, c3].getD j c1 := ⟨_, rfl⟩
  have hw : rW wm tm_ D ad cs A s mI H locs := by subst had hcs; exact ⟨hK, hP, hD, hS, hA⟩
  have h00 : ad 0 = h0 := by rw [had]; rfl
  exact W.vret hx hb hr (fun t ht hW => ⟨⟨(ad, cs, mI), rfl, ⟨h00, rfl⟩, by rw [ht]; exact hw.2.1, va_K.moved hW.alike hw.1, hw.2.2.1⟩, hw.2.2.2.1.F ht⟩) hw.2.2.2.1.2.2 d_m_init_39 hlk
end
section
/-! the law's world: the ring's cells and the model's, side by side -/
def lW (D : va_G) (ad : Nat → Nat) (cs : Nat → ClassId) (bd : Nat → Nat) (ds : Nat → ClassId) (A : Nat → Prop) (s : State) (σ μ : St) (H : Heap) (locs : List Loc) : Prop :=
  va_K D classes (tr_ cs ++ tm_ ds) s ∧ va_P D classes (wr ad cs σ ++ wm bd ds μ) H ∧ va_D A (wr ad cs σ ++ wm bd ds μ) ∧ va_S A s.heap H locs ∧ ∀ q, s.heap.size ≤ q → A q
section LAW
variable {p : Program} {l : Launch} {e : Env} {R : Room} {s : State} {m : MethodId} {args : Array Value} {below : List Frame} {meth : Method} {c : Code} {H : Heap} {locs : List Loc} {Q : State → Prop} {cells slots : Nat}
variable {cc : ByteArray} {nL pc : Nat} {ls : Array Slot} {rest : List Value} {own : String} {D : va_G} {ad bd : Nat → Nat} {cs ds : Nat → ClassId} {A : Nat → Prop} {σ μ : St}
set_option maxHeartbeats 4000000 in
theorem lr_calli {y : MethodName} {b : ByteArray} {nL' fr lo idx n : Nat} {rt : FieldType} {av : List Value} {Pre : St → Prop} {Post : St → Int32 → St → Prop} {st : List Value}
    (S : CallFix p m c cc nL s args gw_tbl own) (hw : lW D ad cs bd ds A s σ μ H locs) (G : rLk own idx R_rr y b nL' (some rt) n) (hM : rCi wr tr_ l y (.code y b nL' (some rt) :: gw_tbl) fr lo av Pre Post) (hpre : Pre σ)
    (hR : fr + 1 ≤ R.frames ∧ 8 + (nL' + 11) + lo ≤ R.locals) (hn : av.length = n) (hls : ls.size = nL) (hst : st = av.reverse ++ .ref (ad 0) :: rest) (hrest : (rest.map fun v => v.category).sum ≤ 8) (hcl : cells ≤ R.cells ∧ slots ≤ R.slots) (hdg : decode cc pc = .ok (.invokevirtual idx, 3))
    (kk : ∀ (r : Int32) (σ' : St) (H' : Heap) (locs' : List Loc), Post σ r σ' → lW D ad cs bd ds A s σ' μ H' locs' → W p l e R s m args below meth c H' locs' cells slots Q (F0 m (pc + 3) ls (.int r :: rest))) : W p l e R s m args below meth c H locs cells slots Q (F0 m pc ls st) := by
  obtain ⟨hK, hP, hD, hS, hA⟩ := hw
  have hPc := hP.sub (ws' := wr ad cs σ) [0, 1, 2, 3, 4, 5, 6, 7, 8, 9, 10, 11, 12] rfl
  have hDc := hD.sub (ws' := wr ad cs σ) [0, 1, 2, 3, 4, 5, 6, 7, 8, 9, 10, 11, 12] (by decide) rfl
  have hKc := hK.sub (tys' := tr_ cs) [0, 1, 2, 3, 4, 5, 6, 7, 8, 9, 10, 11] rfl
  have hFc := va_free (wc := wr ad cs σ) hD hS hA [0, 1, 2, 3, 4, 5, 6, 7, 8, 9, 10, 11, 12] rfl
  refine va_calli (mc := 0) (ms := 0) (A1 := va_A (wr ad cs σ) H.size) (free := va_A (wr ad cs σ) H.size) (va_runV (C := R_rr) (bytes := b) (maxL := nL') (ret := some rt) (As := av) (rest := rest) (b := ad 0) S (hM D ad cs H.size σ hpre) (cwV n S.2.2.2.2 G.good rfl rfl rfl G.2.2.2.2.2 hR) ⟨fun a U g mk q => by obtain ⟨q0, q1, qP, qK, qD⟩ := q; exact ⟨q0, q1, qP, va_K.moved (u := U) (U := U.calling g mk a) (Vm.Alike.refl U.vm) qK, qD⟩, va_recv hKc hPc (ci := 0) (q0 := 0) rfl rfl, fun U hU hW => ⟨rfl, by rw [hU], by rw [hU]; exact hPc, va_K.moved hW.alike hKc, hDc.weaken (fun _ _ _ _ => trivial)⟩⟩ rfl hn hls hst (lv_room hrest) hdg hcl) hS (fun q _ h => hFc q h) hFc (fun r u t H1 locs1 ht hvm hpost hB hz1 hk1 hS1 => ?_)
  obtain ⟨hP1, hK1, hD1⟩ := hB
  rw [ht] at hP1
  obtain ⟨hP2, hD2⟩ := va_join (wr := wm bd ds μ) (w1 := wr ad cs u) hP hD [0, 1, 2, 3, 4, 5, 6, 7, 8, 9, 10, 11, 12] [13, 14, 15, 16] rfl rfl (by decide) (by decide) hk1 hFc hP1 hD1
  exact kk r u H1 locs1 hpost ⟨hK, hP2.sub [4, 5, 6, 7, 8, 9, 10, 11, 12, 13, 14, 15, 16, 0, 1, 2, 3] rfl, hD2.sub [4, 5, 6, 7, 8, 9, 10, 11, 12, 13, 14, 15, 16, 0, 1, 2, 3] (by decide) rfl, hS1, hA⟩
set_option maxHeartbeats 4000000 in
theorem lm_calli {y : MethodName} {b : ByteArray} {nL' fr lo idx n : Nat} {rt : FieldType} {av : List Value} {Pre : St → Prop} {Post : St → Int32 → St → Prop} {st : List Value}
    (S : CallFix p m c cc nL s args gw_tbl own) (hw : lW D ad cs bd ds A s σ μ H locs) (G : rLk own idx R_md y b nL' (some rt) n) (hM : rCi wm tm_ l y (.code y b nL' (some rt) :: gw_tbl) fr lo av Pre Post) (hpre : Pre μ)
    (hR : fr + 1 ≤ R.frames ∧ 8 + (nL' + 11) + lo ≤ R.locals) (hn : av.length = n) (hls : ls.size = nL) (hst : st = av.reverse ++ .ref (bd 0) :: rest) (hrest : (rest.map fun v => v.category).sum ≤ 8) (hcl : cells ≤ R.cells ∧ slots ≤ R.slots) (hdg : decode cc pc = .ok (.invokevirtual idx, 3))
    (kk : ∀ (r : Int32) (μ' : St) (H' : Heap) (locs' : List Loc), Post μ r μ' → lW D ad cs bd ds A s σ μ' H' locs' → W p l e R s m args below meth c H' locs' cells slots Q (F0 m (pc + 3) ls (.int r :: rest))) : W p l e R s m args below meth c H locs cells slots Q (F0 m pc ls st) := by
  obtain ⟨hK, hP, hD, hS, hA⟩ := hw
  have hPc := hP.sub (ws' := wm bd ds μ) [13, 14, 15, 16] rfl
  have hDc := hD.sub (ws' := wm bd ds μ) [13, 14, 15, 16] (by decide) rfl
  have hKc := hK.sub (tys' := tm_ ds) [12, 13, 14] rfl
  have hFc := va_free (wc := wm bd ds μ) hD hS hA [13, 14, 15, 16] rfl
  refine va_calli (mc := 0) (ms := 0) (A1 := va_A (wm bd ds μ) H.size) (free := va_A (wm bd ds μ) H.size) (va_runV (C := R_md) (bytes := b) (maxL := nL') (ret := some rt) (As := av) (rest := rest) (b := bd 0) S (hM D bd ds H.size μ hpre) (cwV n S.2.2.2.2 G.good rfl rfl rfl G.2.2.2.2.2 hR) ⟨fun a U g mk q => by obtain ⟨q0, q1, qP, qK, qD⟩ := q; exact ⟨q0, q1, qP, va_K.moved (u := U) (U := U.calling g mk a) (Vm.Alike.refl U.vm) qK, qD⟩, va_recv hKc hPc (ci := 1) (q0 := 0) rfl rfl, fun U hU hW => ⟨rfl, by rw [hU], by rw [hU]; exact hPc, va_K.moved hW.alike hKc, hDc.weaken (fun _ _ _ _ => trivial)⟩⟩ rfl hn hls hst (lv_room hrest) hdg hcl) hS (fun q _ h => hFc q h) hFc (fun r u t H1 locs1 ht hvm hpost hB hz1 hk1 hS1 => ?_)
  obtain ⟨hP1, hK1, hD1⟩ := hB
  rw [ht] at hP1
  obtain ⟨hP2, hD2⟩ := va_join (wr := wr ad cs σ) (w1 := wm bd ds u) hP hD [13, 14, 15, 16] [0, 1, 2, 3, 4, 5, 6, 7, 8, 9, 10, 11, 12] rfl rfl (by decide) (by decide) hk1 hFc hP1 hD1
  exact kk r u H1 locs1 hpost ⟨hK, hP2, hD2, hS1, hA⟩
/-- a place of the script -/
theorem l_ld {bs L : Nat} {xs : Nat → Int32} {j : Nat} (hx : p.tables.exec = Jvm.exec) (hb : c.code = cc) (hX : va_X bs L xs s s.heap) (hbl : bs < s.heap.size) (hbA : ¬ A bs) (hw : lW D ad cs bd ds A s σ μ H locs) (hj : j < L) (hL : L ≤ 2048) (hdg : decode cc pc = .ok (.iaload, 1))
    (k : W p l e R s m args below meth c H locs cells slots Q (F0 m (pc + 1) ls (.int (xs j) :: rest))) : W p l e R s m args below meth c H locs cells slots Q (F0 m pc ls (.int (nI j) :: .ref bs :: rest)) :=
  va_sld hx hb hX hbl hbA hw.2.2.2.1 (vp_in_nI hj (by omega)) hdg (by rw [nI_clamp (by omega)]; exact k)
end LAW
/-! ring and model tell the same -/
def Rel (b : Nat) (σ μ : St) : Prop := ∃ (M U : Nat) (T : Tr) (cn : Nat → Nat), okM M ∧ okW M U ∧ Inv M U T σ ∧ MR M U T cn μ ∧ ∀ k, k < 16 → (T k).1 = nI (cn k) ∧ cn k ≤ 8 * b + 7
abbrev bdd (b : Nat) (T : Tr) (cn : Nat → Nat) : Prop := ∀ k, k < 16 → (T k).1 = nI (cn k) ∧ cn k ≤ 8 * b + 7
theorem bdd.up {b : Nat} {T : Tr} {cn : Nat → Nat} (h : bdd b T cn) : bdd (b + 1) T cn := fun k hk => ⟨(h k hk).1, by have := (h k hk).2; omega⟩
theorem bdd.lt {b : Nat} {T : Tr} {cn : Nat → Nat} (h : bdd b T cn) (hb : b ≤ 1000) : ∀ k, k < 16 → (T k).1 = nI (cn k) ∧ cn k < 2 ^ 20 := fun k hk => ⟨(h k hk).1, by have := (h k hk).2; omega⟩
theorem bdd.new {b : Nat} {T : Tr} {cn : Nat → Nat} (h : bdd b T cn) {kj cj : Nat} (hk : kj < 16) (hc : cj < 6) (v t : Int32) : bdd (b + 1) (Tnew T kj ((cn kj / 8 + 1) * 8 + cj) v t) (cnew cn kj ((cn kj / 8 + 1) * 8 + cj)) := by
  intro k hk2
  by_cases e : k = kj
  · subst e
    rw [Tnew_s]; unfold cnew; rw [if_pos rfl]
    exact ⟨rfl, by have := (h k hk2).2; omega⟩
  · rw [Tnew_o e]; unfold cnew; rw [if_neg e]
    exact ⟨(h k hk2).1, by have := (h k hk2).2; omega⟩
section STEP
variable {b M U : Nat} {T : Tr} {cn : Nat → Nat} {σ μ σ' μ' : St} {r1 r2 : Int32}
theorem step_put {c k v : Int32} (hM : okM M) (hU : okW M U) (hi : Inv M U T σ) (hm : MR M U T cn μ) (hc : bdd b T cn) (h1 : putP M U T cn c k v σ r1 σ') (h2 : mputP M U T cn c k v μ r2 μ') : r1 = r2 ∧ Rel (b + 1) σ' μ' := by
  rcases h1 with ⟨q, rfl, rfl⟩ | ⟨q, q2, rfl, rfl⟩ | ⟨cj, kj, hcj, hkj, rfl, rfl, hv, hu, rfl, hi'⟩
  · obtain ⟨e, rfl⟩ := h2.1 q
    exact ⟨e.symm, M, U, T, cn, hM, hU, hi, hm, hc.up⟩
  · obtain ⟨e, rfl⟩ := h2.2.1 q q2
    exact ⟨e.symm, M, U, T, cn, hM, hU, hi, hm, hc.up⟩
  · obtain ⟨e, hm'⟩ := h2.2.2 cj kj hcj hkj rfl rfl hv hu
    exact ⟨e.symm, M, U, _, _, hM, hU, hi', hm', hc.new hkj hcj _ _⟩
theorem step_get {c k : Int32} (hM : okM M) (hU : okW M U) (hi : Inv M U T σ) (hm : MR M U T cn μ) (hc : bdd b T cn) (h1 : getP M U T c k σ r1 σ') (h2 : mgetP U T c k μ r2 μ') : r1 = r2 ∧ Rel (b + 1) σ' μ' := by
  obtain ⟨rfl, g1, g2, g3⟩ := h2
  rcases h1 with ⟨q, rfl, rfl⟩ | ⟨q, q2, rfl, rfl⟩ | ⟨cj, kj, hcj, hkj, rfl, rfl, hu, rfl, hi'⟩
  · exact ⟨(g1 q).symm, M, U, T, cn, hM, hU, hi, hm, hc.up⟩
  · exact ⟨(g2 q q2).symm, M, U, T, cn, hM, hU, hi, hm, hc.up⟩
  · exact ⟨(g3 cj kj hcj hkj rfl rfl hu).symm, M, U, T, cn, hM, hU, hi', hm, hc.up⟩
theorem step_rem {c k : Int32} (hM : okM M) (hU : okW M U) (hi : Inv M U T σ) (hm : MR M U T cn μ) (hc : bdd b T cn) (h1 : remP M U T cn c k σ r1 σ') (h2 : mremP M U T cn c k μ r2 μ') : r1 = r2 ∧ Rel (b + 1) σ' μ' := by
  rcases h1 with ⟨q, rfl, rfl⟩ | ⟨q, q2, rfl, rfl⟩ | ⟨cj, kj, hcj, hkj, rfl, rfl, hu, rfl, hi'⟩
  · obtain ⟨e, rfl⟩ := h2.1 q
    exact ⟨e.symm, M, U, T, cn, hM, hU, hi, hm, hc.up⟩
  · obtain ⟨e, rfl⟩ := h2.2.1 q q2
    exact ⟨e.symm, M, U, T, cn, hM, hU, hi, hm, hc.up⟩
  · obtain ⟨e, hm'⟩ := h2.2.2 cj kj hcj hkj rfl rfl hu
    exact ⟨e.symm, M, U, _, _, hM, hU, hi', hm', hc.new hkj hcj _ _⟩
theorem step_add {c k v : Int32} (hM : okM M) (hU : okW M U) (hi : Inv M U T σ) (hm : MR M U T cn μ) (hc : bdd b T cn) (h1 : addP M U T cn c k v σ r1 σ') (h2 : maddP M U T cn c k v μ r2 μ') : r1 = r2 ∧ Rel (b + 1) σ' μ' := by
  rcases h1 with ⟨q, rfl, rfl⟩ | ⟨q, q2, rfl, rfl⟩ | ⟨cj, kj, hcj, hkj, rfl, rfl, hv, hu, ⟨hs, rfl, hi'⟩ | ⟨hs, rfl, hi'⟩⟩
  · obtain ⟨e, rfl⟩ := h2.1 q
    exact ⟨e.symm, M, U, T, cn, hM, hU, hi, hm, hc.up⟩
  · obtain ⟨e, rfl⟩ := h2.2.1 q q2
    exact ⟨e.symm, M, U, T, cn, hM, hU, hi, hm, hc.up⟩
  · obtain ⟨e, rfl⟩ := (h2.2.2 cj kj hcj hkj rfl rfl hv hu).1 hs
    exact ⟨e.symm, M, U, T, cn, hM, hU, hi', hm, hc.up⟩
  · obtain ⟨e, hm'⟩ := (h2.2.2 cj kj hcj hkj rfl rfl hv hu).2 hs
    exact ⟨e.symm, M, U, _, _, hM, hU, hi', hm', hc.new hkj hcj _ _⟩
theorem step_dn {m : Int32} (hM : okM M) (hU : okW M U) (hi : Inv M U T σ) (hm : MR M U T cn μ) (hc : bdd b T cn) (h1 : dnP M U T m σ r1 σ') (h2 : mdnP M U T cn m μ r2 μ') : r1 = r2 ∧ Rel (b + 1) σ' μ' := by
  rcases h1 with ⟨q, rfl, rfl⟩ | ⟨mj, hmj, rfl, hb, e, rfl, hi'⟩
  · obtain ⟨e, rfl⟩ := h2.1 q
    exact ⟨e.symm, M, U, T, cn, hM, hU, hi, hm, hc.up⟩
  · obtain ⟨e2, hm'⟩ := h2.2 mj hmj rfl hb e
    exact ⟨e2.symm, M, _, T, cn, hM, okW_dn hM hmj hb, hi', hm', hc.up⟩
theorem step_up {m : Int32} (hM : okM M) (hU : okW M U) (hi : Inv M U T σ) (hm : MR M U T cn μ) (hc : bdd b T cn) (h1 : upP M U T m σ r1 σ') (h2 : mupP M U T cn m μ r2 μ') : r1 = r2 ∧ Rel (b + 1) σ' μ' := by
  rcases h1 with ⟨q, rfl, rfl⟩ | ⟨mj, hmj, rfl, hb, hn, rfl, hi'⟩
  · obtain ⟨e, rfl⟩ := h2.1 q
    exact ⟨e.symm, M, U, T, cn, hM, hU, hi, hm, hc.up⟩
  · obtain ⟨e2, hm'⟩ := h2.2 mj hmj rfl hb hn
    exact ⟨e2.symm, M, M, T, cn, hM, okW_self hM, hi', hm', hc.up⟩
theorem step_jo {m : Int32} (hM : okM M) (hU : okW M U) (hi : Inv M U T σ) (hm : MR M U T cn μ) (hc : bdd b T cn) (h1 : joP M U T m σ r1 σ') (h2 : mjoP M U T cn m μ r2 μ') : r1 = r2 ∧ Rel (b + 1) σ' μ' := by
  rcases h1 with ⟨q, rfl, rfl⟩ | ⟨q, q2, rfl, rfl⟩ | ⟨mj, hmj, rfl, hb, e, rfl, hi'⟩
  · obtain ⟨e, rfl⟩ := h2.1 q
    exact ⟨e.symm, M, U, T, cn, hM, hU, hi, hm, hc.up⟩
  · obtain ⟨e, rfl⟩ := h2.2.1 q q2
    exact ⟨e.symm, M, U, T, cn, hM, hU, hi, hm, hc.up⟩
  · obtain ⟨e2, hm'⟩ := h2.2.2 mj hmj rfl hb e
    have ok : okM (M ||| 2 ^ mj) := ⟨(or6 M hM.1 mj hmj).2.1, Nat.le_trans hM.2 (or6c M hM.1 mj hmj)⟩
    exact ⟨e2.symm, _, _, T, cn, ok, okW_self ok, hi', hm', hc.up⟩
theorem step_le {m : Int32} (hM : okM M) (hU : okW M U) (hi : Inv M U T σ) (hm : MR M U T cn μ) (hc : bdd b T cn) (h1 : leP M U T m σ r1 σ') (h2 : mleP M U T cn m μ r2 μ') : r1 = r2 ∧ Rel (b + 1) σ' μ' := by
  rcases h1 with ⟨q, rfl, rfl⟩ | ⟨q, q2, rfl, rfl⟩ | ⟨mj, hmj, rfl, hb, h3, e, rfl, hi'⟩
  · obtain ⟨e, rfl⟩ := h2.1 q
    exact ⟨e.symm, M, U, T, cn, hM, hU, hi, hm, hc.up⟩
  · obtain ⟨e, rfl⟩ := h2.2.1 q q2
    exact ⟨e.symm, M, U, T, cn, hM, hU, hi, hm, hc.up⟩
  · obtain ⟨e2, hm'⟩ := h2.2.2 mj hmj rfl hb h3 e
    have h6 := and6 M hM.1 mj hmj hb
    have ok : okM (M ^^^ 2 ^ mj) := ⟨h6.2.1, by have := hM.2; have := h6.2.2; omega⟩
    exact ⟨e2.symm, _, _, T, cn, ok, okW_self ok, hi', hm', hc.up⟩
theorem step_lo {n : Int32} (hM : okM M) (hU : okW M U) (hi : Inv M U T σ) (hm : MR M U T cn μ) (hc : bdd b T cn) (h1 : loP M U T n σ r1 σ') (h2 : μ' = μ ∧ r2 = bI (¬ n < 0 ∧ ¬ nI 30 < n)) : r1 = r2 ∧ Rel (b + 1) σ' μ' := by
  obtain ⟨rfl, rfl⟩ := h2
  rcases h1 with ⟨q, rfl, rfl⟩ | ⟨q, rfl, hi'⟩
  · exact ⟨bI_f (fun h => q ⟨h.1, Int32.not_lt.mp h.2⟩), M, U, T, cn, hM, hU, hi, hm, hc.up⟩
  · exact ⟨bI_t ⟨q.1, Int32.not_lt.mpr q.2⟩, M, U, T, cn, hM, hU, hi', hm, hc.up⟩
/-- a question -/
theorem step_q {v : Int32} (hM : okM M) (hU : okW M U) (hm : MR M U T cn μ) (hc : bdd b T cn) (h1 : r1 = v ∧ Inv M U T σ') (h2 : μ' = μ ∧ r2 = v) : r1 = r2 ∧ Rel (b + 1) σ' μ' := by
  obtain ⟨rfl, hi'⟩ := h1
  obtain ⟨rfl, rfl⟩ := h2
  exact ⟨rfl, M, U, T, cn, hM, hU, hi', hm, hc.up⟩
theorem step_q0 {v : Int32} (hM : okM M) (hU : okW M U) (hi : Inv M U T σ) (hm : MR M U T cn μ) (hc : bdd b T cn) (h1 : r1 = v ∧ σ' = σ) (h2 : μ' = μ ∧ r2 = v) : r1 = r2 ∧ Rel (b + 1) σ' μ' := by
  obtain ⟨rfl, rfl⟩ := h1
  exact step_q hM hU hm hc ⟨rfl, hi⟩ h2
theorem step_ch {k : Int32} (hM : okM M) (hU : okW M U) (hi : Inv M U T σ) (hm : MR M U T cn μ) (hc : bdd b T cn) (h1 : (¬ inM k 16 ∧ r1 = cBAD ∧ σ' = σ) ∨ ∃ kj, kj < 16 ∧ k = nI kj ∧ r1 = nI (cn kj / 8) ∧ Inv M U T σ') (h2 : μ' = μ ∧ (¬ inM k 16 → r2 = cBAD) ∧ ∀ kj, kj < 16 → k = nI kj → r2 = nI (cn kj / 8)) : r1 = r2 ∧ Rel (b + 1) σ' μ' := by
  obtain ⟨rfl, g1, g2⟩ := h2
  rcases h1 with ⟨q, rfl, rfl⟩ | ⟨kj, hkj, rfl, rfl, hi'⟩
  · exact ⟨(g1 q).symm, M, U, T, cn, hM, hU, hi, hm, hc.up⟩
  · exact ⟨(g2 kj hkj rfl).symm, M, U, T, cn, hM, hU, hi', hm, hc.up⟩
end STEP
end
section
section LAWC
variable {p : Program} {l : Launch} {e : Env} {s : State} {m : MethodId} {args : Array Value} {below : List Frame} {meth : Method} {c : Code} {H : Heap} {locs : List Loc} {Q : State → Prop}
variable {ls : Array Slot} {D : va_G} {ad bd : Nat → Nat} {cs ds : Nat → ClassId} {A : Nat → Prop} {σ μ : St} {bs L i b : Nat} {xs : Nat → Int32}

set_option maxHeartbeats 4000000 in
set_option maxRecDepth 100000 in
theorem law_case_0 (S : CallFix p m c code 4 s args gw_tbl R_law) (hX : va_X bs L xs s s.heap) (hbl : bs < s.heap.size) (hbA : ¬ A bs) (hL : L ≤ 2048) (hi : i + 4 ≤ L) (hb : b ≤ 1000) (hrel : Rel b σ μ) (hw : lW D ad cs bd ds A s σ μ H locs) (hl : lv_has ls 4 [(0, .ref bs), (1, .ref (ad 0)), (2, .ref (bd 0)), (3, .int (nI i))])
    (hk : ∀ (σ' μ' : St) (H' : Heap) (locs' : List Loc), Rel (b + 1) σ' μ' → lW D ad cs bd ds A s σ' μ' H' locs' → W p l e room_1 s m args below meth c H' locs' 17 2234 Q (F0 m 516 ls [])) : W p l e room_1 s m args below meth c H locs 17 2234 Q (F0 m 112 ls []) := by
  obtain ⟨M, U, T, cn, hM, hU, hi0, hmr, hcn⟩ := hrel
  have hx := S.1
  have hbb := S.2.1
  have hc20 := bdd.lt hcn hb
  refine lv_aload_n hx hbb d_law_112 rfl (lv_at hl 1 rfl) ?_
  refine lv_aload_n hx hbb d_law_113 rfl (lv_at hl 0 rfl) ?_
  refine lv_iload_n hx hbb d_law_114 rfl (lv_at hl 3 rfl) ?_
  refine lv_iconst (v := nI 1) hx hbb d_law_115 (by decide) ?_
  refine ln_iadd hx hbb d_law_116 ?_
  refine l_ld hx hbb hX hbl hbA hw (by omega) hL d_law_117 ?_
  refine lv_aload_n hx hbb d_law_118 rfl (lv_at hl 0 rfl) ?_
  refine lv_iload_n hx hbb d_law_119 rfl (lv_at hl 3 rfl) ?_
  refine lv_iconst (v := nI 2) hx hbb d_law_120 (by decide) ?_
  refine ln_iadd hx hbb d_law_121 ?_
  refine l_ld hx hbb hX hbl hbA hw (by omega) hL d_law_122 ?_
  refine lv_aload_n hx hbb d_law_123 rfl (lv_at hl 0 rfl) ?_
  refine lv_iload_n hx hbb d_law_124 rfl (lv_at hl 3 rfl) ?_
  refine lv_iconst (v := nI 3) hx hbb d_law_125 (by decide) ?_
  refine ln_iadd hx hbb d_law_126 ?_
  refine l_ld hx hbb hX hbl hbA hw (by omega) hL d_law_127 ?_
  refine lr_calli (rest := []) S hw k_l_r_put (c_r_put l (xs (i + 1)) (xs (i + 2)) (xs (i + 3)) M U T cn hM hU hc20) hi0 ⟨Nat.le_of_ble_eq_true rfl, Nat.le_of_ble_eq_true rfl⟩ rfl hl.1 rfl (Nat.le_of_ble_eq_true rfl) ⟨Nat.le_of_ble_eq_true rfl, Nat.le_of_ble_eq_true rfl⟩ d_law_128 (fun r1 σ1 H locs hq1 hw => ?_)
  refine lv_aload_n hx hbb d_law_131 rfl (lv_at hl 2 rfl) ?_
  refine lv_aload_n hx hbb d_law_132 rfl (lv_at hl 0 rfl) ?_
  refine lv_iload_n hx hbb d_law_133 rfl (lv_at hl 3 rfl) ?_
  refine lv_iconst (v := nI 1) hx hbb d_law_134 (by decide) ?_
  refine ln_iadd hx hbb d_law_135 ?_
  refine l_ld hx hbb hX hbl hbA hw (by omega) hL d_law_136 ?_
  refine lv_aload_n hx hbb d_law_137 rfl (lv_at hl 0 rfl) ?_
  refine lv_iload_n hx hbb d_law_138 rfl (lv_at hl 3 rfl) ?_
  refine lv_iconst (v := nI 2) hx hbb d_law_139 (by decide) ?_
  refine ln_iadd hx hbb d_law_140 ?_
  refine l_ld hx hbb hX hbl hbA hw (by omega) hL d_law_141 ?_
  refine lv_aload_n hx hbb d_law_142 rfl (lv_at hl 0 rfl) ?_
  refine lv_iload_n hx hbb d_law_143 rfl (lv_at hl 3 rfl) ?_
  refine lv_iconst (v := nI 3) hx hbb d_law_144 (by decide) ?_
  refine ln_iadd hx hbb d_law_145 ?_
  refine l_ld hx hbb hX hbl hbA hw (by omega) hL d_law_146 ?_
  refine lm_calli (rest := [.int (r1)]) S hw k_l_m_put (c_m_put l (xs (i + 1)) (xs (i + 2)) (xs (i + 3)) M U T cn hM (fun k hk => (hc20 k hk).2)) hmr ⟨Nat.le_of_ble_eq_true rfl, Nat.le_of_ble_eq_true rfl⟩ rfl hl.1 rfl (Nat.le_of_ble_eq_true rfl) ⟨Nat.le_of_ble_eq_true rfl, Nat.le_of_ble_eq_true rfl⟩ d_law_147 (fun r2 μ1 H locs hq2 hw => ?_)
  obtain ⟨heq, hrel⟩ := step_put hM hU hi0 hmr hcn hq1 hq2
  exact lv_icmp_eq (tgt := 516) hx hbb d_law_150 (by decide) (fun _ => hk _ _ _ _ hrel hw) (fun h => absurd heq h)
set_option maxHeartbeats 4000000 in
set_option maxRecDepth 100000 in
theorem law_case_1 (S : CallFix p m c code 4 s args gw_tbl R_law) (hX : va_X bs L xs s s.heap) (hbl : bs < s.heap.size) (hbA : ¬ A bs) (hL : L ≤ 2048) (hi : i + 4 ≤ L) (hb : b ≤ 1000) (hrel : Rel b σ μ) (hw : lW D ad cs bd ds A s σ μ H locs) (hl : lv_has ls 4 [(0, .ref bs), (1, .ref (ad 0)), (2, .ref (bd 0)), (3, .int (nI i))])
    (hk : ∀ (σ' μ' : St) (H' : Heap) (locs' : List Loc), Rel (b + 1) σ' μ' → lW D ad cs bd ds A s σ' μ' H' locs' → W p l e room_1 s m args below meth c H' locs' 17 2234 Q (F0 m 516 ls [])) : W p l e room_1 s m args below meth c H locs 17 2234 Q (F0 m 155 ls []) := by
  obtain ⟨M, U, T, cn, hM, hU, hi0, hmr, hcn⟩ := hrel
  have hx := S.1
  have hbb := S.2.1
  have hc20 := bdd.lt hcn hb
  refine lv_aload_n hx hbb d_law_155 rfl (lv_at hl 1 rfl) ?_
  refine lv_aload_n hx hbb d_law_156 rfl (lv_at hl 0 rfl) ?_
  refine lv_iload_n hx hbb d_law_157 rfl (lv_at hl 3 rfl) ?_
  refine lv_iconst (v := nI 1) hx hbb d_law_158 (by decide) ?_
  refine ln_iadd hx hbb d_law_159 ?_
  refine l_ld hx hbb hX hbl hbA hw (by omega) hL d_law_160 ?_
  refine lv_aload_n hx hbb d_law_161 rfl (lv_at hl 0 rfl) ?_
  refine lv_iload_n hx hbb d_law_162 rfl (lv_at hl 3 rfl) ?_
  refine lv_iconst (v := nI 2) hx hbb d_law_163 (by decide) ?_
  refine ln_iadd hx hbb d_law_164 ?_
  refine l_ld hx hbb hX hbl hbA hw (by omega) hL d_law_165 ?_
  refine lr_calli (rest := []) S hw k_l_r_get (c_r_get l (xs (i + 1)) (xs (i + 2)) M U T cn hM hU hc20) hi0 ⟨Nat.le_of_ble_eq_true rfl, Nat.le_of_ble_eq_true rfl⟩ rfl hl.1 rfl (Nat.le_of_ble_eq_true rfl) ⟨Nat.le_of_ble_eq_true rfl, Nat.le_of_ble_eq_true rfl⟩ d_law_166 (fun r1 σ1 H locs hq1 hw => ?_)
  refine lv_aload_n hx hbb d_law_169 rfl (lv_at hl 2 rfl) ?_
  refine lv_aload_n hx hbb d_law_170 rfl (lv_at hl 0 rfl) ?_
  refine lv_iload_n hx hbb d_law_171 rfl (lv_at hl 3 rfl) ?_
  refine lv_iconst (v := nI 1) hx hbb d_law_172 (by decide) ?_
  refine ln_iadd hx hbb d_law_173 ?_
  refine l_ld hx hbb hX hbl hbA hw (by omega) hL d_law_174 ?_
  refine lv_aload_n hx hbb d_law_175 rfl (lv_at hl 0 rfl) ?_
  refine lv_iload_n hx hbb d_law_176 rfl (lv_at hl 3 rfl) ?_
  refine lv_iconst (v := nI 2) hx hbb d_law_177 (by decide) ?_
  refine ln_iadd hx hbb d_law_178 ?_
  refine l_ld hx hbb hX hbl hbA hw (by omega) hL d_law_179 ?_
  refine lm_calli (rest := [.int (r1)]) S hw k_l_m_get (c_m_get l (xs (i + 1)) (xs (i + 2)) M U T cn hM (fun k hk => (hc20 k hk).2)) hmr ⟨Nat.le_of_ble_eq_true rfl, Nat.le_of_ble_eq_true rfl⟩ rfl hl.1 rfl (Nat.le_of_ble_eq_true rfl) ⟨Nat.le_of_ble_eq_true rfl, Nat.le_of_ble_eq_true rfl⟩ d_law_180 (fun r2 μ1 H locs hq2 hw => ?_)
  obtain ⟨heq, hrel⟩ := step_get hM hU hi0 hmr hcn hq1 hq2
  exact lv_icmp_eq (tgt := 516) hx hbb d_law_183 (by decide) (fun _ => hk _ _ _ _ hrel hw) (fun h => absurd heq h)
set_option maxHeartbeats 4000000 in
set_option maxRecDepth 100000 in
theorem law_case_2 (S : CallFix p m c code 4 s args gw_tbl R_law) (hX : va_X bs L xs s s.heap) (hbl : bs < s.heap.size) (hbA : ¬ A bs) (hL : L ≤ 2048) (hi : i + 4 ≤ L) (hb : b ≤ 1000) (hrel : Rel b σ μ) (hw : lW D ad cs bd ds A s σ μ H locs) (hl : lv_has ls 4 [(0, .ref bs), (1, .ref (ad 0)), (2, .ref (bd 0)), (3, .int (nI i))])
    (hk : ∀ (σ' μ' : St) (H' : Heap) (locs' : List Loc), Rel (b + 1) σ' μ' → lW D ad cs bd ds A s σ' μ' H' locs' → W p l e room_1 s m args below meth c H' locs' 17 2234 Q (F0 m 516 ls [])) : W p l e room_1 s m args below meth c H locs 17 2234 Q (F0 m 188 ls []) := by
  obtain ⟨M, U, T, cn, hM, hU, hi0, hmr, hcn⟩ := hrel
  have hx := S.1
  have hbb := S.2.1
  have hc20 := bdd.lt hcn hb
  refine lv_aload_n hx hbb d_law_188 rfl (lv_at hl 1 rfl) ?_
  refine lv_aload_n hx hbb d_law_189 rfl (lv_at hl 0 rfl) ?_
  refine lv_iload_n hx hbb d_law_190 rfl (lv_at hl 3 rfl) ?_
  refine lv_iconst (v := nI 1) hx hbb d_law_191 (by decide) ?_
  refine ln_iadd hx hbb d_law_192 ?_
  refine l_ld hx hbb hX hbl hbA hw (by omega) hL d_law_193 ?_
  refine lv_aload_n hx hbb d_law_194 rfl (lv_at hl 0 rfl) ?_
  refine lv_iload_n hx hbb d_law_195 rfl (lv_at hl 3 rfl) ?_
  refine lv_iconst (v := nI 2) hx hbb d_law_196 (by decide) ?_
  refine ln_iadd hx hbb d_law_197 ?_
  refine l_ld hx hbb hX hbl hbA hw (by omega) hL d_law_198 ?_
  refine lr_calli (rest := []) S hw k_l_r_remove (c_r_remove l (xs (i + 1)) (xs (i + 2)) M U T cn hM hU hc20) hi0 ⟨Nat.le_of_ble_eq_true rfl, Nat.le_of_ble_eq_true rfl⟩ rfl hl.1 rfl (Nat.le_of_ble_eq_true rfl) ⟨Nat.le_of_ble_eq_true rfl, Nat.le_of_ble_eq_true rfl⟩ d_law_199 (fun r1 σ1 H locs hq1 hw => ?_)
  refine lv_aload_n hx hbb d_law_202 rfl (lv_at hl 2 rfl) ?_
  refine lv_aload_n hx hbb d_law_203 rfl (lv_at hl 0 rfl) ?_
  refine lv_iload_n hx hbb d_law_204 rfl (lv_at hl 3 rfl) ?_
  refine lv_iconst (v := nI 1) hx hbb d_law_205 (by decide) ?_
  refine ln_iadd hx hbb d_law_206 ?_
  refine l_ld hx hbb hX hbl hbA hw (by omega) hL d_law_207 ?_
  refine lv_aload_n hx hbb d_law_208 rfl (lv_at hl 0 rfl) ?_
  refine lv_iload_n hx hbb d_law_209 rfl (lv_at hl 3 rfl) ?_
  refine lv_iconst (v := nI 2) hx hbb d_law_210 (by decide) ?_
  refine ln_iadd hx hbb d_law_211 ?_
  refine l_ld hx hbb hX hbl hbA hw (by omega) hL d_law_212 ?_
  refine lm_calli (rest := [.int (r1)]) S hw k_l_m_remove (c_m_remove l (xs (i + 1)) (xs (i + 2)) M U T cn hM (fun k hk => (hc20 k hk).2)) hmr ⟨Nat.le_of_ble_eq_true rfl, Nat.le_of_ble_eq_true rfl⟩ rfl hl.1 rfl (Nat.le_of_ble_eq_true rfl) ⟨Nat.le_of_ble_eq_true rfl, Nat.le_of_ble_eq_true rfl⟩ d_law_213 (fun r2 μ1 H locs hq2 hw => ?_)
  obtain ⟨heq, hrel⟩ := step_rem hM hU hi0 hmr hcn hq1 hq2
  exact lv_icmp_eq (tgt := 516) hx hbb d_law_216 (by decide) (fun _ => hk _ _ _ _ hrel hw) (fun h => absurd heq h)
set_option maxHeartbeats 4000000 in
set_option maxRecDepth 100000 in
theorem law_case_3 (S : CallFix p m c code 4 s args gw_tbl R_law) (hX : va_X bs L xs s s.heap) (hbl : bs < s.heap.size) (hbA : ¬ A bs) (hL : L ≤ 2048) (hi : i + 4 ≤ L) (hb : b ≤ 1000) (hrel : Rel b σ μ) (hw : lW D ad cs bd ds A s σ μ H locs) (hl : lv_has ls 4 [(0, .ref bs), (1, .ref (ad 0)), (2, .ref (bd 0)), (3, .int (nI i))])
    (hk : ∀ (σ' μ' : St) (H' : Heap) (locs' : List Loc), Rel (b + 1) σ' μ' → lW D ad cs bd ds A s σ' μ' H' locs' → W p l e room_1 s m args below meth c H' locs' 17 2234 Q (F0 m 516 ls [])) : W p l e room_1 s m args below meth c H locs 17 2234 Q (F0 m 221 ls []) := by
  obtain ⟨M, U, T, cn, hM, hU, hi0, hmr, hcn⟩ := hrel
  have hx := S.1
  have hbb := S.2.1
  have hc20 := bdd.lt hcn hb
  refine lv_aload_n hx hbb d_law_221 rfl (lv_at hl 1 rfl) ?_
  refine lv_aload_n hx hbb d_law_222 rfl (lv_at hl 0 rfl) ?_
  refine lv_iload_n hx hbb d_law_223 rfl (lv_at hl 3 rfl) ?_
  refine lv_iconst (v := nI 1) hx hbb d_law_224 (by decide) ?_
  refine ln_iadd hx hbb d_law_225 ?_
  refine l_ld hx hbb hX hbl hbA hw (by omega) hL d_law_226 ?_
  refine lv_aload_n hx hbb d_law_227 rfl (lv_at hl 0 rfl) ?_
  refine lv_iload_n hx hbb d_law_228 rfl (lv_at hl 3 rfl) ?_
  refine lv_iconst (v := nI 2) hx hbb d_law_229 (by decide) ?_
  refine ln_iadd hx hbb d_law_230 ?_
  refine l_ld hx hbb hX hbl hbA hw (by omega) hL d_law_231 ?_
  refine lv_aload_n hx hbb d_law_232 rfl (lv_at hl 0 rfl) ?_
  refine lv_iload_n hx hbb d_law_233 rfl (lv_at hl 3 rfl) ?_
  refine lv_iconst (v := nI 3) hx hbb d_law_234 (by decide) ?_
  refine ln_iadd hx hbb d_law_235 ?_
  refine l_ld hx hbb hX hbl hbA hw (by omega) hL d_law_236 ?_
  refine lr_calli (rest := []) S hw k_l_r_add (c_r_add l (xs (i + 1)) (xs (i + 2)) (xs (i + 3)) M U T cn hM hU hc20) hi0 ⟨Nat.le_of_ble_eq_true rfl, Nat.le_of_ble_eq_true rfl⟩ rfl hl.1 rfl (Nat.le_of_ble_eq_true rfl) ⟨Nat.le_of_ble_eq_true rfl, Nat.le_of_ble_eq_true rfl⟩ d_law_237 (fun r1 σ1 H locs hq1 hw => ?_)
  refine lv_aload_n hx hbb d_law_240 rfl (lv_at hl 2 rfl) ?_
  refine lv_aload_n hx hbb d_law_241 rfl (lv_at hl 0 rfl) ?_
  refine lv_iload_n hx hbb d_law_242 rfl (lv_at hl 3 rfl) ?_
  refine lv_iconst (v := nI 1) hx hbb d_law_243 (by decide) ?_
  refine ln_iadd hx hbb d_law_244 ?_
  refine l_ld hx hbb hX hbl hbA hw (by omega) hL d_law_245 ?_
  refine lv_aload_n hx hbb d_law_246 rfl (lv_at hl 0 rfl) ?_
  refine lv_iload_n hx hbb d_law_247 rfl (lv_at hl 3 rfl) ?_
  refine lv_iconst (v := nI 2) hx hbb d_law_248 (by decide) ?_
  refine ln_iadd hx hbb d_law_249 ?_
  refine l_ld hx hbb hX hbl hbA hw (by omega) hL d_law_250 ?_
  refine lv_aload_n hx hbb d_law_251 rfl (lv_at hl 0 rfl) ?_
  refine lv_iload_n hx hbb d_law_252 rfl (lv_at hl 3 rfl) ?_
  refine lv_iconst (v := nI 3) hx hbb d_law_253 (by decide) ?_
  refine ln_iadd hx hbb d_law_254 ?_
  refine l_ld hx hbb hX hbl hbA hw (by omega) hL d_law_255 ?_
  refine lm_calli (rest := [.int (r1)]) S hw k_l_m_add (c_m_add l (xs (i + 1)) (xs (i + 2)) (xs (i + 3)) M U T cn hM (fun k hk => (hc20 k hk).2)) hmr ⟨Nat.le_of_ble_eq_true rfl, Nat.le_of_ble_eq_true rfl⟩ rfl hl.1 rfl (Nat.le_of_ble_eq_true rfl) ⟨Nat.le_of_ble_eq_true rfl, Nat.le_of_ble_eq_true rfl⟩ d_law_256 (fun r2 μ1 H locs hq2 hw => ?_)
  obtain ⟨heq, hrel⟩ := step_add hM hU hi0 hmr hcn hq1 hq2
  exact lv_icmp_eq (tgt := 516) hx hbb d_law_259 (by decide) (fun _ => hk _ _ _ _ hrel hw) (fun h => absurd heq h)
set_option maxHeartbeats 4000000 in
set_option maxRecDepth 100000 in
theorem law_case_4 (S : CallFix p m c code 4 s args gw_tbl R_law) (hX : va_X bs L xs s s.heap) (hbl : bs < s.heap.size) (hbA : ¬ A bs) (hL : L ≤ 2048) (hi : i + 4 ≤ L) (hb : b ≤ 1000) (hrel : Rel b σ μ) (hw : lW D ad cs bd ds A s σ μ H locs) (hl : lv_has ls 4 [(0, .ref bs), (1, .ref (ad 0)), (2, .ref (bd 0)), (3, .int (nI i))])
    (hk : ∀ (σ' μ' : St) (H' : Heap) (locs' : List Loc), Rel (b + 1) σ' μ' → lW D ad cs bd ds A s σ' μ' H' locs' → W p l e room_1 s m args below meth c H' locs' 17 2234 Q (F0 m 516 ls [])) : W p l e room_1 s m args below meth c H locs 17 2234 Q (F0 m 264 ls []) := by
  obtain ⟨M, U, T, cn, hM, hU, hi0, hmr, hcn⟩ := hrel
  have hx := S.1
  have hbb := S.2.1
  have hc20 := bdd.lt hcn hb
  refine lv_aload_n hx hbb d_law_264 rfl (lv_at hl 1 rfl) ?_
  refine lv_aload_n hx hbb d_law_265 rfl (lv_at hl 0 rfl) ?_
  refine lv_iload_n hx hbb d_law_266 rfl (lv_at hl 3 rfl) ?_
  refine lv_iconst (v := nI 1) hx hbb d_law_267 (by decide) ?_
  refine ln_iadd hx hbb d_law_268 ?_
  refine l_ld hx hbb hX hbl hbA hw (by omega) hL d_law_269 ?_
  refine lr_calli (rest := []) S hw k_l_r_down (c_r_down l (xs (i + 1)) M U T hM hU) hi0 ⟨Nat.le_of_ble_eq_true rfl, Nat.le_of_ble_eq_true rfl⟩ rfl hl.1 rfl (Nat.le_of_ble_eq_true rfl) ⟨Nat.le_of_ble_eq_true rfl, Nat.le_of_ble_eq_true rfl⟩ d_law_270 (fun r1 σ1 H locs hq1 hw => ?_)
  refine lv_aload_n hx hbb d_law_273 rfl (lv_at hl 2 rfl) ?_
  refine lv_aload_n hx hbb d_law_274 rfl (lv_at hl 0 rfl) ?_
  refine lv_iload_n hx hbb d_law_275 rfl (lv_at hl 3 rfl) ?_
  refine lv_iconst (v := nI 1) hx hbb d_law_276 (by decide) ?_
  refine ln_iadd hx hbb d_law_277 ?_
  refine l_ld hx hbb hX hbl hbA hw (by omega) hL d_law_278 ?_
  refine lm_calli (rest := [.int (r1)]) S hw k_l_m_down (c_m_down l (xs (i + 1)) M U T cn hM) hmr ⟨Nat.le_of_ble_eq_true rfl, Nat.le_of_ble_eq_true rfl⟩ rfl hl.1 rfl (Nat.le_of_ble_eq_true rfl) ⟨Nat.le_of_ble_eq_true rfl, Nat.le_of_ble_eq_true rfl⟩ d_law_279 (fun r2 μ1 H locs hq2 hw => ?_)
  obtain ⟨heq, hrel⟩ := step_dn hM hU hi0 hmr hcn hq1 hq2
  exact lv_icmp_eq (tgt := 516) hx hbb d_law_282 (by decide) (fun _ => hk _ _ _ _ hrel hw) (fun h => absurd heq h)
set_option maxHeartbeats 4000000 in
set_option maxRecDepth 100000 in
theorem law_case_5 (S : CallFix p m c code 4 s args gw_tbl R_law) (hX : va_X bs L xs s s.heap) (hbl : bs < s.heap.size) (hbA : ¬ A bs) (hL : L ≤ 2048) (hi : i + 4 ≤ L) (hb : b ≤ 1000) (hrel : Rel b σ μ) (hw : lW D ad cs bd ds A s σ μ H locs) (hl : lv_has ls 4 [(0, .ref bs), (1, .ref (ad 0)), (2, .ref (bd 0)), (3, .int (nI i))])
    (hk : ∀ (σ' μ' : St) (H' : Heap) (locs' : List Loc), Rel (b + 1) σ' μ' → lW D ad cs bd ds A s σ' μ' H' locs' → W p l e room_1 s m args below meth c H' locs' 17 2234 Q (F0 m 516 ls [])) : W p l e room_1 s m args below meth c H locs 17 2234 Q (F0 m 287 ls []) := by
  obtain ⟨M, U, T, cn, hM, hU, hi0, hmr, hcn⟩ := hrel
  have hx := S.1
  have hbb := S.2.1
  have hc20 := bdd.lt hcn hb
  refine lv_aload_n hx hbb d_law_287 rfl (lv_at hl 1 rfl) ?_
  refine lv_aload_n hx hbb d_law_288 rfl (lv_at hl 0 rfl) ?_
  refine lv_iload_n hx hbb d_law_289 rfl (lv_at hl 3 rfl) ?_
  refine lv_iconst (v := nI 1) hx hbb d_law_290 (by decide) ?_
  refine ln_iadd hx hbb d_law_291 ?_
  refine l_ld hx hbb hX hbl hbA hw (by omega) hL d_law_292 ?_
  refine lv_aload_n hx hbb d_law_293 rfl (lv_at hl 0 rfl) ?_
  refine lv_iload_n hx hbb d_law_294 rfl (lv_at hl 3 rfl) ?_
  refine lv_iconst (v := nI 2) hx hbb d_law_295 (by decide) ?_
  refine ln_iadd hx hbb d_law_296 ?_
  refine l_ld hx hbb hX hbl hbA hw (by omega) hL d_law_297 ?_
  refine lv_if_eq (tgt := 305) hx hbb d_law_298 (by decide) (fun _ => ?_) (fun _ => ?_)
  · refine lv_iconst (v := nI 0) hx hbb d_law_305 (by decide) ?_
    refine lr_calli (rest := []) S hw k_l_r_up (c_r_up l (xs (i + 1)) (nI 0) M U T hM hU) hi0 ⟨Nat.le_of_ble_eq_true rfl, Nat.le_of_ble_eq_true rfl⟩ rfl hl.1 rfl (Nat.le_of_ble_eq_true rfl) ⟨Nat.le_of_ble_eq_true rfl, Nat.le_of_ble_eq_true rfl⟩ d_law_306 (fun r1 σ1 H locs hq1 hw => ?_)
    refine lv_aload_n hx hbb d_law_309 rfl (lv_at hl 2 rfl) ?_
    refine lv_aload_n hx hbb d_law_310 rfl (lv_at hl 0 rfl) ?_
    refine lv_iload_n hx hbb d_law_311 rfl (lv_at hl 3 rfl) ?_
    refine lv_iconst (v := nI 1) hx hbb d_law_312 (by decide) ?_
    refine ln_iadd hx hbb d_law_313 ?_
    refine l_ld hx hbb hX hbl hbA hw (by omega) hL d_law_314 ?_
    refine lv_aload_n hx hbb d_law_315 rfl (lv_at hl 0 rfl) ?_
    refine lv_iload_n hx hbb d_law_316 rfl (lv_at hl 3 rfl) ?_
    refine lv_iconst (v := nI 2) hx hbb d_law_317 (by decide) ?_
    refine ln_iadd hx hbb d_law_318 ?_
    refine l_ld hx hbb hX hbl hbA hw (by omega) hL d_law_319 ?_
    refine lv_if_eq (tgt := 327) hx hbb d_law_320 (by decide) (fun _ => ?_) (fun _ => ?_)
    · refine lv_iconst (v := nI 0) hx hbb d_law_327 (by decide) ?_
      refine lm_calli (rest := [.int (r1)]) S hw k_l_m_up (c_m_up l (xs (i + 1)) (nI 0) M U T cn hM) hmr ⟨Nat.le_of_ble_eq_true rfl, Nat.le_of_ble_eq_true rfl⟩ rfl hl.1 rfl (Nat.le_of_ble_eq_true rfl) ⟨Nat.le_of_ble_eq_true rfl, Nat.le_of_ble_eq_true rfl⟩ d_law_328 (fun r2 μ1 H locs hq2 hw => ?_)
      obtain ⟨heq, hrel⟩ := step_up hM hU hi0 hmr hcn hq1 hq2
      exact lv_icmp_eq (tgt := 516) hx hbb d_law_331 (by decide) (fun _ => hk _ _ _ _ hrel hw) (fun h => absurd heq h)
    · refine lv_iconst (v := nI 1) hx hbb d_law_323 (by decide) ?_
      refine lv_goto (tgt := 328) hx hbb d_law_324 (by decide) ?_
      refine lm_calli (rest := [.int (r1)]) S hw k_l_m_up (c_m_up l (xs (i + 1)) (nI 1) M U T cn hM) hmr ⟨Nat.le_of_ble_eq_true rfl, Nat.le_of_ble_eq_true rfl⟩ rfl hl.1 rfl (Nat.le_of_ble_eq_true rfl) ⟨Nat.le_of_ble_eq_true rfl, Nat.le_of_ble_eq_true rfl⟩ d_law_328 (fun r2 μ1 H locs hq2 hw => ?_)
      obtain ⟨heq, hrel⟩ := step_up hM hU hi0 hmr hcn hq1 hq2
      exact lv_icmp_eq (tgt := 516) hx hbb d_law_331 (by decide) (fun _ => hk _ _ _ _ hrel hw) (fun h => absurd heq h)
  · refine lv_iconst (v := nI 1) hx hbb d_law_301 (by decide) ?_
    refine lv_goto (tgt := 306) hx hbb d_law_302 (by decide) ?_
    refine lr_calli (rest := []) S hw k_l_r_up (c_r_up l (xs (i + 1)) (nI 1) M U T hM hU) hi0 ⟨Nat.le_of_ble_eq_true rfl, Nat.le_of_ble_eq_true rfl⟩ rfl hl.1 rfl (Nat.le_of_ble_eq_true rfl) ⟨Nat.le_of_ble_eq_true rfl, Nat.le_of_ble_eq_true rfl⟩ d_law_306 (fun r1 σ1 H locs hq1 hw => ?_)
    refine lv_aload_n hx hbb d_law_309 rfl (lv_at hl 2 rfl) ?_
    refine lv_aload_n hx hbb d_law_310 rfl (lv_at hl 0 rfl) ?_
    refine lv_iload_n hx hbb d_law_311 rfl (lv_at hl 3 rfl) ?_
    refine lv_iconst (v := nI 1) hx hbb d_law_312 (by decide) ?_
    refine ln_iadd hx hbb d_law_313 ?_
    refine l_ld hx hbb hX hbl hbA hw (by omega) hL d_law_314 ?_
    refine lv_aload_n hx hbb d_law_315 rfl (lv_at hl 0 rfl) ?_
    refine lv_iload_n hx hbb d_law_316 rfl (lv_at hl 3 rfl) ?_
    refine lv_iconst (v := nI 2) hx hbb d_law_317 (by decide) ?_
    refine ln_iadd hx hbb d_law_318 ?_
    refine l_ld hx hbb hX hbl hbA hw (by omega) hL d_law_319 ?_
    refine lv_if_eq (tgt := 327) hx hbb d_law_320 (by decide) (fun _ => ?_) (fun _ => ?_)
    · refine lv_iconst (v := nI 0) hx hbb d_law_327 (by decide) ?_
      refine lm_calli (rest := [.int (r1)]) S hw k_l_m_up (c_m_up l (xs (i + 1)) (nI 0) M U T cn hM) hmr ⟨Nat.le_of_ble_eq_true rfl, Nat.le_of_ble_eq_true rfl⟩ rfl hl.1 rfl (Nat.le_of_ble_eq_true rfl) ⟨Nat.le_of_ble_eq_true rfl, Nat.le_of_ble_eq_true rfl⟩ d_law_328 (fun r2 μ1 H locs hq2 hw => ?_)
      obtain ⟨heq, hrel⟩ := step_up hM hU hi0 hmr hcn hq1 hq2
      exact lv_icmp_eq (tgt := 516) hx hbb d_law_331 (by decide) (fun _ => hk _ _ _ _ hrel hw) (fun h => absurd heq h)
    · refine lv_iconst (v := nI 1) hx hbb d_law_323 (by decide) ?_
      refine lv_goto (tgt := 328) hx hbb d_law_324 (by decide) ?_
      refine lm_calli (rest := [.int (r1)]) S hw k_l_m_up (c_m_up l (xs (i + 1)) (nI 1) M U T cn hM) hmr ⟨Nat.le_of_ble_eq_true rfl, Nat.le_of_ble_eq_true rfl⟩ rfl hl.1 rfl (Nat.le_of_ble_eq_true rfl) ⟨Nat.le_of_ble_eq_true rfl, Nat.le_of_ble_eq_true rfl⟩ d_law_328 (fun r2 μ1 H locs hq2 hw => ?_)
      obtain ⟨heq, hrel⟩ := step_up hM hU hi0 hmr hcn hq1 hq2
      exact lv_icmp_eq (tgt := 516) hx hbb d_law_331 (by decide) (fun _ => hk _ _ _ _ hrel hw) (fun h => absurd heq h)
set_option maxHeartbeats 4000000 in
set_option maxRecDepth 100000 in
theorem law_case_6 (S : CallFix p m c code 4 s args gw_tbl R_law) (hX : va_X bs L xs s s.heap) (hbl : bs < s.heap.size) (hbA : ¬ A bs) (hL : L ≤ 2048) (hi : i + 4 ≤ L) (hb : b ≤ 1000) (hrel : Rel b σ μ) (hw : lW D ad cs bd ds A s σ μ H locs) (hl : lv_has ls 4 [(0, .ref bs), (1, .ref (ad 0)), (2, .ref (bd 0)), (3, .int (nI i))])
    (hk : ∀ (σ' μ' : St) (H' : Heap) (locs' : List Loc), Rel (b + 1) σ' μ' → lW D ad cs bd ds A s σ' μ' H' locs' → W p l e room_1 s m args below meth c H' locs' 17 2234 Q (F0 m 516 ls [])) : W p l e room_1 s m args below meth c H locs 17 2234 Q (F0 m 336 ls []) := by
  obtain ⟨M, U, T, cn, hM, hU, hi0, hmr, hcn⟩ := hrel
  have hx := S.1
  have hbb := S.2.1
  have hc20 := bdd.lt hcn hb
  refine lv_aload_n hx hbb d_law_336 rfl (lv_at hl 1 rfl) ?_
  refine lv_aload_n hx hbb d_law_337 rfl (lv_at hl 0 rfl) ?_
  refine lv_iload_n hx hbb d_law_338 rfl (lv_at hl 3 rfl) ?_
  refine lv_iconst (v := nI 1) hx hbb d_law_339 (by decide) ?_
  refine ln_iadd hx hbb d_law_340 ?_
  refine l_ld hx hbb hX hbl hbA hw (by omega) hL d_law_341 ?_
  refine lr_calli (rest := []) S hw k_l_r_join (c_r_join l (xs (i + 1)) M U T hM hU) hi0 ⟨Nat.le_of_ble_eq_true rfl, Nat.le_of_ble_eq_true rfl⟩ rfl hl.1 rfl (Nat.le_of_ble_eq_true rfl) ⟨Nat.le_of_ble_eq_true rfl, Nat.le_of_ble_eq_true rfl⟩ d_law_342 (fun r1 σ1 H locs hq1 hw => ?_)
  refine lv_aload_n hx hbb d_law_345 rfl (lv_at hl 2 rfl) ?_
  refine lv_aload_n hx hbb d_law_346 rfl (lv_at hl 0 rfl) ?_
  refine lv_iload_n hx hbb d_law_347 rfl (lv_at hl 3 rfl) ?_
  refine lv_iconst (v := nI 1) hx hbb d_law_348 (by decide) ?_
  refine ln_iadd hx hbb d_law_349 ?_
  refine l_ld hx hbb hX hbl hbA hw (by omega) hL d_law_350 ?_
  refine lm_calli (rest := [.int (r1)]) S hw k_l_m_join (c_m_join l (xs (i + 1)) M U T cn hM) hmr ⟨Nat.le_of_ble_eq_true rfl, Nat.le_of_ble_eq_true rfl⟩ rfl hl.1 rfl (Nat.le_of_ble_eq_true rfl) ⟨Nat.le_of_ble_eq_true rfl, Nat.le_of_ble_eq_true rfl⟩ d_law_351 (fun r2 μ1 H locs hq2 hw => ?_)
  obtain ⟨heq, hrel⟩ := step_jo hM hU hi0 hmr hcn hq1 hq2
  exact lv_icmp_eq (tgt := 516) hx hbb d_law_354 (by decide) (fun _ => hk _ _ _ _ hrel hw) (fun h => absurd heq h)
set_option maxHeartbeats 4000000 in
set_option maxRecDepth 100000 in
theorem law_case_7 (S : CallFix p m c code 4 s args gw_tbl R_law) (hX : va_X bs L xs s s.heap) (hbl : bs < s.heap.size) (hbA : ¬ A bs) (hL : L ≤ 2048) (hi : i + 4 ≤ L) (hb : b ≤ 1000) (hrel : Rel b σ μ) (hw : lW D ad cs bd ds A s σ μ H locs) (hl : lv_has ls 4 [(0, .ref bs), (1, .ref (ad 0)), (2, .ref (bd 0)), (3, .int (nI i))])
    (hk : ∀ (σ' μ' : St) (H' : Heap) (locs' : List Loc), Rel (b + 1) σ' μ' → lW D ad cs bd ds A s σ' μ' H' locs' → W p l e room_1 s m args below meth c H' locs' 17 2234 Q (F0 m 516 ls [])) : W p l e room_1 s m args below meth c H locs 17 2234 Q (F0 m 359 ls []) := by
  obtain ⟨M, U, T, cn, hM, hU, hi0, hmr, hcn⟩ := hrel
  have hx := S.1
  have hbb := S.2.1
  have hc20 := bdd.lt hcn hb
  refine lv_aload_n hx hbb d_law_359 rfl (lv_at hl 1 rfl) ?_
  refine lv_aload_n hx hbb d_law_360 rfl (lv_at hl 0 rfl) ?_
  refine lv_iload_n hx hbb d_law_361 rfl (lv_at hl 3 rfl) ?_
  refine lv_iconst (v := nI 1) hx hbb d_law_362 (by decide) ?_
  refine ln_iadd hx hbb d_law_363 ?_
  refine l_ld hx hbb hX hbl hbA hw (by omega) hL d_law_364 ?_
  refine lr_calli (rest := []) S hw k_l_r_leave (c_r_leave l (xs (i + 1)) M U T hM hU) hi0 ⟨Nat.le_of_ble_eq_true rfl, Nat.le_of_ble_eq_true rfl⟩ rfl hl.1 rfl (Nat.le_of_ble_eq_true rfl) ⟨Nat.le_of_ble_eq_true rfl, Nat.le_of_ble_eq_true rfl⟩ d_law_365 (fun r1 σ1 H locs hq1 hw => ?_)
  refine lv_aload_n hx hbb d_law_368 rfl (lv_at hl 2 rfl) ?_
  refine lv_aload_n hx hbb d_law_369 rfl (lv_at hl 0 rfl) ?_
  refine lv_iload_n hx hbb d_law_370 rfl (lv_at hl 3 rfl) ?_
  refine lv_iconst (v := nI 1) hx hbb d_law_371 (by decide) ?_
  refine ln_iadd hx hbb d_law_372 ?_
  refine l_ld hx hbb hX hbl hbA hw (by omega) hL d_law_373 ?_
  refine lm_calli (rest := [.int (r1)]) S hw k_l_m_leave (c_m_leave l (xs (i + 1)) M U T cn hM) hmr ⟨Nat.le_of_ble_eq_true rfl, Nat.le_of_ble_eq_true rfl⟩ rfl hl.1 rfl (Nat.le_of_ble_eq_true rfl) ⟨Nat.le_of_ble_eq_true rfl, Nat.le_of_ble_eq_true rfl⟩ d_law_374 (fun r2 μ1 H locs hq2 hw => ?_)
  obtain ⟨heq, hrel⟩ := step_le hM hU hi0 hmr hcn hq1 hq2
  exact lv_icmp_eq (tgt := 516) hx hbb d_law_377 (by decide) (fun _ => hk _ _ _ _ hrel hw) (fun h => absurd heq h)
set_option maxHeartbeats 4000000 in
set_option maxRecDepth 100000 in
theorem law_case_8 (S : CallFix p m c code 4 s args gw_tbl R_law) (hX : va_X bs L xs s s.heap) (hbl : bs < s.heap.size) (hbA : ¬ A bs) (hL : L ≤ 2048) (hi : i + 4 ≤ L) (hb : b ≤ 1000) (hrel : Rel b σ μ) (hw : lW D ad cs bd ds A s σ μ H locs) (hl : lv_has ls 4 [(0, .ref bs), (1, .ref (ad 0)), (2, .ref (bd 0)), (3, .int (nI i))])
    (hk : ∀ (σ' μ' : St) (H' : Heap) (locs' : List Loc), Rel (b + 1) σ' μ' → lW D ad cs bd ds A s σ' μ' H' locs' → W p l e room_1 s m args below meth c H' locs' 17 2234 Q (F0 m 516 ls [])) : W p l e room_1 s m args below meth c H locs 17 2234 Q (F0 m 382 ls []) := by
  obtain ⟨M, U, T, cn, hM, hU, hi0, hmr, hcn⟩ := hrel
  have hx := S.1
  have hbb := S.2.1
  have hc20 := bdd.lt hcn hb
  refine lv_aload_n hx hbb d_law_382 rfl (lv_at hl 1 rfl) ?_
  refine lv_aload_n hx hbb d_law_383 rfl (lv_at hl 0 rfl) ?_
  refine lv_iload_n hx hbb d_law_384 rfl (lv_at hl 3 rfl) ?_
  refine lv_iconst (v := nI 1) hx hbb d_law_385 (by decide) ?_
  refine ln_iadd hx hbb d_law_386 ?_
  refine l_ld hx hbb hX hbl hbA hw (by omega) hL d_law_387 ?_
  refine lr_calli (rest := []) S hw k_l_r_lose (c_r_lose l (xs (i + 1)) M U T) hi0 ⟨Nat.le_of_ble_eq_true rfl, Nat.le_of_ble_eq_true rfl⟩ rfl hl.1 rfl (Nat.le_of_ble_eq_true rfl) ⟨Nat.le_of_ble_eq_true rfl, Nat.le_of_ble_eq_true rfl⟩ d_law_388 (fun r1 σ1 H locs hq1 hw => ?_)
  refine lv_aload_n hx hbb d_law_391 rfl (lv_at hl 2 rfl) ?_
  refine lv_aload_n hx hbb d_law_392 rfl (lv_at hl 0 rfl) ?_
  refine lv_iload_n hx hbb d_law_393 rfl (lv_at hl 3 rfl) ?_
  refine lv_iconst (v := nI 1) hx hbb d_law_394 (by decide) ?_
  refine ln_iadd hx hbb d_law_395 ?_
  refine l_ld hx hbb hX hbl hbA hw (by omega) hL d_law_396 ?_
  refine lm_calli (rest := [.int (r1)]) S hw k_l_m_lose (c_m_lose l (xs (i + 1))) trivial ⟨Nat.le_of_ble_eq_true rfl, Nat.le_of_ble_eq_true rfl⟩ rfl hl.1 rfl (Nat.le_of_ble_eq_true rfl) ⟨Nat.le_of_ble_eq_true rfl, Nat.le_of_ble_eq_true rfl⟩ d_law_397 (fun r2 μ1 H locs hq2 hw => ?_)
  obtain ⟨heq, hrel⟩ := step_lo hM hU hi0 hmr hcn hq1 hq2
  exact lv_icmp_eq (tgt := 516) hx hbb d_law_400 (by decide) (fun _ => hk _ _ _ _ hrel hw) (fun h => absurd heq h)
set_option maxHeartbeats 4000000 in
set_option maxRecDepth 100000 in
theorem law_case_9 (S : CallFix p m c code 4 s args gw_tbl R_law) (hX : va_X bs L xs s s.heap) (hbl : bs < s.heap.size) (hbA : ¬ A bs) (hL : L ≤ 2048) (hi : i + 4 ≤ L) (hb : b ≤ 1000) (hrel : Rel b σ μ) (hw : lW D ad cs bd ds A s σ μ H locs) (hl : lv_has ls 4 [(0, .ref bs), (1, .ref (ad 0)), (2, .ref (bd 0)), (3, .int (nI i))])
    (hk : ∀ (σ' μ' : St) (H' : Heap) (locs' : List Loc), Rel (b + 1) σ' μ' → lW D ad cs bd ds A s σ' μ' H' locs' → W p l e room_1 s m args below meth c H' locs' 17 2234 Q (F0 m 516 ls [])) : W p l e room_1 s m args below meth c H locs 17 2234 Q (F0 m 405 ls []) := by
  obtain ⟨M, U, T, cn, hM, hU, hi0, hmr, hcn⟩ := hrel
  have hx := S.1
  have hbb := S.2.1
  have hc20 := bdd.lt hcn hb
  refine lv_aload_n hx hbb d_law_405 rfl (lv_at hl 1 rfl) ?_
  refine lr_calli (rest := []) S hw k_l_r_tidy (c_r_tidy l  M U T hM hU) hi0 ⟨Nat.le_of_ble_eq_true rfl, Nat.le_of_ble_eq_true rfl⟩ rfl hl.1 rfl (Nat.le_of_ble_eq_true rfl) ⟨Nat.le_of_ble_eq_true rfl, Nat.le_of_ble_eq_true rfl⟩ d_law_406 (fun r1 σ1 H locs hq1 hw => ?_)
  refine lv_aload_n hx hbb d_law_409 rfl (lv_at hl 2 rfl) ?_
  refine lm_calli (rest := [.int (r1)]) S hw k_l_m_tidy (c_m_tidy l  M U T cn) hmr ⟨Nat.le_of_ble_eq_true rfl, Nat.le_of_ble_eq_true rfl⟩ rfl hl.1 rfl (Nat.le_of_ble_eq_true rfl) ⟨Nat.le_of_ble_eq_true rfl, Nat.le_of_ble_eq_true rfl⟩ d_law_410 (fun r2 μ1 H locs hq2 hw => ?_)
  obtain ⟨heq, hrel⟩ := step_q hM hU hmr hcn hq1 hq2
  exact lv_icmp_eq (tgt := 516) hx hbb d_law_413 (by decide) (fun _ => hk _ _ _ _ hrel hw) (fun h => absurd heq h)
set_option maxHeartbeats 4000000 in
set_option maxRecDepth 100000 in
theorem law_case_10 (S : CallFix p m c code 4 s args gw_tbl R_law) (hX : va_X bs L xs s s.heap) (hbl : bs < s.heap.size) (hbA : ¬ A bs) (hL : L ≤ 2048) (hi : i + 4 ≤ L) (hb : b ≤ 1000) (hrel : Rel b σ μ) (hw : lW D ad cs bd ds A s σ μ H locs) (hl : lv_has ls 4 [(0, .ref bs), (1, .ref (ad 0)), (2, .ref (bd 0)), (3, .int (nI i))])
    (hk : ∀ (σ' μ' : St) (H' : Heap) (locs' : List Loc), Rel (b + 1) σ' μ' → lW D ad cs bd ds A s σ' μ' H' locs' → W p l e room_1 s m args below meth c H' locs' 17 2234 Q (F0 m 516 ls [])) : W p l e room_1 s m args below meth c H locs 17 2234 Q (F0 m 418 ls []) := by
  obtain ⟨M, U, T, cn, hM, hU, hi0, hmr, hcn⟩ := hrel
  have hx := S.1
  have hbb := S.2.1
  have hc20 := bdd.lt hcn hb
  refine lv_aload_n hx hbb d_law_418 rfl (lv_at hl 1 rfl) ?_
  refine lr_calli (rest := []) S hw k_l_r_members (c_r_members l  M U T) hi0 ⟨Nat.le_of_ble_eq_true rfl, Nat.le_of_ble_eq_true rfl⟩ rfl hl.1 rfl (Nat.le_of_ble_eq_true rfl) ⟨Nat.le_of_ble_eq_true rfl, Nat.le_of_ble_eq_true rfl⟩ d_law_419 (fun r1 σ1 H locs hq1 hw => ?_)
  refine lv_aload_n hx hbb d_law_422 rfl (lv_at hl 2 rfl) ?_
  refine lm_calli (rest := [.int (r1)]) S hw k_l_m_members (c_m_members l  M U T cn) hmr ⟨Nat.le_of_ble_eq_true rfl, Nat.le_of_ble_eq_true rfl⟩ rfl hl.1 rfl (Nat.le_of_ble_eq_true rfl) ⟨Nat.le_of_ble_eq_true rfl, Nat.le_of_ble_eq_true rfl⟩ d_law_423 (fun r2 μ1 H locs hq2 hw => ?_)
  obtain ⟨heq, hrel⟩ := step_q0 hM hU hi0 hmr hcn hq1 hq2
  exact lv_icmp_eq (tgt := 516) hx hbb d_law_426 (by decide) (fun _ => hk _ _ _ _ hrel hw) (fun h => absurd heq h)
set_option maxHeartbeats 4000000 in
set_option maxRecDepth 100000 in
theorem law_case_11 (S : CallFix p m c code 4 s args gw_tbl R_law) (hX : va_X bs L xs s s.heap) (hbl : bs < s.heap.size) (hbA : ¬ A bs) (hL : L ≤ 2048) (hi : i + 4 ≤ L) (hb : b ≤ 1000) (hrel : Rel b σ μ) (hw : lW D ad cs bd ds A s σ μ H locs) (hl : lv_has ls 4 [(0, .ref bs), (1, .ref (ad 0)), (2, .ref (bd 0)), (3, .int (nI i))])
    (hk : ∀ (σ' μ' : St) (H' : Heap) (locs' : List Loc), Rel (b + 1) σ' μ' → lW D ad cs bd ds A s σ' μ' H' locs' → W p l e room_1 s m args below meth c H' locs' 17 2234 Q (F0 m 516 ls [])) : W p l e room_1 s m args below meth c H locs 17 2234 Q (F0 m 431 ls []) := by
  obtain ⟨M, U, T, cn, hM, hU, hi0, hmr, hcn⟩ := hrel
  have hx := S.1
  have hbb := S.2.1
  have hc20 := bdd.lt hcn hb
  refine lv_aload_n hx hbb d_law_431 rfl (lv_at hl 1 rfl) ?_
  refine lr_calli (rest := []) S hw k_l_r_working (c_r_working l  M U T) hi0 ⟨Nat.le_of_ble_eq_true rfl, Nat.le_of_ble_eq_true rfl⟩ rfl hl.1 rfl (Nat.le_of_ble_eq_true rfl) ⟨Nat.le_of_ble_eq_true rfl, Nat.le_of_ble_eq_true rfl⟩ d_law_432 (fun r1 σ1 H locs hq1 hw => ?_)
  refine lv_aload_n hx hbb d_law_435 rfl (lv_at hl 2 rfl) ?_
  refine lm_calli (rest := [.int (r1)]) S hw k_l_m_working (c_m_working l  M U T cn hM) hmr ⟨Nat.le_of_ble_eq_true rfl, Nat.le_of_ble_eq_true rfl⟩ rfl hl.1 rfl (Nat.le_of_ble_eq_true rfl) ⟨Nat.le_of_ble_eq_true rfl, Nat.le_of_ble_eq_true rfl⟩ d_law_436 (fun r2 μ1 H locs hq2 hw => ?_)
  obtain ⟨heq, hrel⟩ := step_q0 hM hU hi0 hmr hcn hq1 hq2
  exact lv_icmp_eq (tgt := 516) hx hbb d_law_439 (by decide) (fun _ => hk _ _ _ _ hrel hw) (fun h => absurd heq h)
set_option maxHeartbeats 4000000 in
set_option maxRecDepth 100000 in
theorem law_case_12 (S : CallFix p m c code 4 s args gw_tbl R_law) (hX : va_X bs L xs s s.heap) (hbl : bs < s.heap.size) (hbA : ¬ A bs) (hL : L ≤ 2048) (hi : i + 4 ≤ L) (hb : b ≤ 1000) (hrel : Rel b σ μ) (hw : lW D ad cs bd ds A s σ μ H locs) (hl : lv_has ls 4 [(0, .ref bs), (1, .ref (ad 0)), (2, .ref (bd 0)), (3, .int (nI i))])
    (hk : ∀ (σ' μ' : St) (H' : Heap) (locs' : List Loc), Rel (b + 1) σ' μ' → lW D ad cs bd ds A s σ' μ' H' locs' → W p l e room_1 s m args below meth c H' locs' 17 2234 Q (F0 m 516 ls [])) : W p l e room_1 s m args below meth c H locs 17 2234 Q (F0 m 444 ls []) := by
  obtain ⟨M, U, T, cn, hM, hU, hi0, hmr, hcn⟩ := hrel
  have hx := S.1
  have hbb := S.2.1
  have hc20 := bdd.lt hcn hb
  refine lv_aload_n hx hbb d_law_444 rfl (lv_at hl 1 rfl) ?_
  refine lr_calli (rest := []) S hw k_l_r_size (c_r_size l  M U T hM hU) hi0 ⟨Nat.le_of_ble_eq_true rfl, Nat.le_of_ble_eq_true rfl⟩ rfl hl.1 rfl (Nat.le_of_ble_eq_true rfl) ⟨Nat.le_of_ble_eq_true rfl, Nat.le_of_ble_eq_true rfl⟩ d_law_445 (fun r1 σ1 H locs hq1 hw => ?_)
  refine lv_aload_n hx hbb d_law_448 rfl (lv_at hl 2 rfl) ?_
  refine lm_calli (rest := [.int (r1)]) S hw k_l_m_size (c_m_size l  M U T cn) hmr ⟨Nat.le_of_ble_eq_true rfl, Nat.le_of_ble_eq_true rfl⟩ rfl hl.1 rfl (Nat.le_of_ble_eq_true rfl) ⟨Nat.le_of_ble_eq_true rfl, Nat.le_of_ble_eq_true rfl⟩ d_law_449 (fun r2 μ1 H locs hq2 hw => ?_)
  obtain ⟨heq, hrel⟩ := step_q hM hU hmr hcn hq1 hq2
  exact lv_icmp_eq (tgt := 516) hx hbb d_law_452 (by decide) (fun _ => hk _ _ _ _ hrel hw) (fun h => absurd heq h)
set_option maxHeartbeats 4000000 in
set_option maxRecDepth 100000 in
theorem law_case_13 (S : CallFix p m c code 4 s args gw_tbl R_law) (hX : va_X bs L xs s s.heap) (hbl : bs < s.heap.size) (hbA : ¬ A bs) (hL : L ≤ 2048) (hi : i + 4 ≤ L) (hb : b ≤ 1000) (hrel : Rel b σ μ) (hw : lW D ad cs bd ds A s σ μ H locs) (hl : lv_has ls 4 [(0, .ref bs), (1, .ref (ad 0)), (2, .ref (bd 0)), (3, .int (nI i))])
    (hk : ∀ (σ' μ' : St) (H' : Heap) (locs' : List Loc), Rel (b + 1) σ' μ' → lW D ad cs bd ds A s σ' μ' H' locs' → W p l e room_1 s m args below meth c H' locs' 17 2234 Q (F0 m 516 ls [])) : W p l e room_1 s m args below meth c H locs 17 2234 Q (F0 m 457 ls []) := by
  obtain ⟨M, U, T, cn, hM, hU, hi0, hmr, hcn⟩ := hrel
  have hx := S.1
  have hbb := S.2.1
  have hc20 := bdd.lt hcn hb
  refine lv_aload_n hx hbb d_law_457 rfl (lv_at hl 1 rfl) ?_
  refine lv_aload_n hx hbb d_law_458 rfl (lv_at hl 0 rfl) ?_
  refine lv_iload_n hx hbb d_law_459 rfl (lv_at hl 3 rfl) ?_
  refine lv_iconst (v := nI 1) hx hbb d_law_460 (by decide) ?_
  refine ln_iadd hx hbb d_law_461 ?_
  refine l_ld hx hbb hX hbl hbA hw (by omega) hL d_law_462 ?_
  refine lr_calli (rest := []) S hw k_l_r_nextKey (c_r_nextKey l (xs (i + 1)) M U T hM hU) hi0 ⟨Nat.le_of_ble_eq_true rfl, Nat.le_of_ble_eq_true rfl⟩ rfl hl.1 rfl (Nat.le_of_ble_eq_true rfl) ⟨Nat.le_of_ble_eq_true rfl, Nat.le_of_ble_eq_true rfl⟩ d_law_463 (fun r1 σ1 H locs hq1 hw => ?_)
  refine lv_aload_n hx hbb d_law_466 rfl (lv_at hl 2 rfl) ?_
  refine lv_aload_n hx hbb d_law_467 rfl (lv_at hl 0 rfl) ?_
  refine lv_iload_n hx hbb d_law_468 rfl (lv_at hl 3 rfl) ?_
  refine lv_iconst (v := nI 1) hx hbb d_law_469 (by decide) ?_
  refine ln_iadd hx hbb d_law_470 ?_
  refine l_ld hx hbb hX hbl hbA hw (by omega) hL d_law_471 ?_
  refine lm_calli (rest := [.int (r1)]) S hw k_l_m_nextKey (c_m_nextKey l (xs (i + 1)) M U T cn) hmr ⟨Nat.le_of_ble_eq_true rfl, Nat.le_of_ble_eq_true rfl⟩ rfl hl.1 rfl (Nat.le_of_ble_eq_true rfl) ⟨Nat.le_of_ble_eq_true rfl, Nat.le_of_ble_eq_true rfl⟩ d_law_472 (fun r2 μ1 H locs hq2 hw => ?_)
  obtain ⟨heq, hrel⟩ := step_q hM hU hmr hcn hq1 hq2
  exact lv_icmp_eq (tgt := 516) hx hbb d_law_475 (by decide) (fun _ => hk _ _ _ _ hrel hw) (fun h => absurd heq h)
set_option maxHeartbeats 4000000 in
set_option maxRecDepth 100000 in
theorem law_case_14 (S : CallFix p m c code 4 s args gw_tbl R_law) (hX : va_X bs L xs s s.heap) (hbl : bs < s.heap.size) (hbA : ¬ A bs) (hL : L ≤ 2048) (hi : i + 4 ≤ L) (hb : b ≤ 1000) (hrel : Rel b σ μ) (hw : lW D ad cs bd ds A s σ μ H locs) (hl : lv_has ls 4 [(0, .ref bs), (1, .ref (ad 0)), (2, .ref (bd 0)), (3, .int (nI i))])
    (hk : ∀ (σ' μ' : St) (H' : Heap) (locs' : List Loc), Rel (b + 1) σ' μ' → lW D ad cs bd ds A s σ' μ' H' locs' → W p l e room_1 s m args below meth c H' locs' 17 2234 Q (F0 m 516 ls [])) : W p l e room_1 s m args below meth c H locs 17 2234 Q (F0 m 480 ls []) := by
  obtain ⟨M, U, T, cn, hM, hU, hi0, hmr, hcn⟩ := hrel
  have hx := S.1
  have hbb := S.2.1
  have hc20 := bdd.lt hcn hb
  refine lv_aload_n hx hbb d_law_480 rfl (lv_at hl 1 rfl) ?_
  refine lr_calli (rest := []) S hw k_l_r_sum (c_r_sum l  M U T hM hU) hi0 ⟨Nat.le_of_ble_eq_true rfl, Nat.le_of_ble_eq_true rfl⟩ rfl hl.1 rfl (Nat.le_of_ble_eq_true rfl) ⟨Nat.le_of_ble_eq_true rfl, Nat.le_of_ble_eq_true rfl⟩ d_law_481 (fun r1 σ1 H locs hq1 hw => ?_)
  refine lv_aload_n hx hbb d_law_484 rfl (lv_at hl 2 rfl) ?_
  refine lm_calli (rest := [.int (r1)]) S hw k_l_m_sum (c_m_sum l  M U T cn) hmr ⟨Nat.le_of_ble_eq_true rfl, Nat.le_of_ble_eq_true rfl⟩ rfl hl.1 rfl (Nat.le_of_ble_eq_true rfl) ⟨Nat.le_of_ble_eq_true rfl, Nat.le_of_ble_eq_true rfl⟩ d_law_485 (fun r2 μ1 H locs hq2 hw => ?_)
  obtain ⟨heq, hrel⟩ := step_q hM hU hmr hcn hq1 hq2
  exact lv_icmp_eq (tgt := 516) hx hbb d_law_488 (by decide) (fun _ => hk _ _ _ _ hrel hw) (fun h => absurd heq h)
set_option maxHeartbeats 4000000 in
set_option maxRecDepth 100000 in
theorem law_case_15 (S : CallFix p m c code 4 s args gw_tbl R_law) (hX : va_X bs L xs s s.heap) (hbl : bs < s.heap.size) (hbA : ¬ A bs) (hL : L ≤ 2048) (hi : i + 4 ≤ L) (hb : b ≤ 1000) (hrel : Rel b σ μ) (hw : lW D ad cs bd ds A s σ μ H locs) (hl : lv_has ls 4 [(0, .ref bs), (1, .ref (ad 0)), (2, .ref (bd 0)), (3, .int (nI i))])
    (hk : ∀ (σ' μ' : St) (H' : Heap) (locs' : List Loc), Rel (b + 1) σ' μ' → lW D ad cs bd ds A s σ' μ' H' locs' → W p l e room_1 s m args below meth c H' locs' 17 2234 Q (F0 m 516 ls [])) : W p l e room_1 s m args below meth c H locs 17 2234 Q (F0 m 493 ls []) := by
  obtain ⟨M, U, T, cn, hM, hU, hi0, hmr, hcn⟩ := hrel
  have hx := S.1
  have hbb := S.2.1
  have hc20 := bdd.lt hcn hb
  refine lv_aload_n hx hbb d_law_493 rfl (lv_at hl 1 rfl) ?_
  refine lv_aload_n hx hbb d_law_494 rfl (lv_at hl 0 rfl) ?_
  refine lv_iload_n hx hbb d_law_495 rfl (lv_at hl 3 rfl) ?_
  refine lv_iconst (v := nI 1) hx hbb d_law_496 (by decide) ?_
  refine ln_iadd hx hbb d_law_497 ?_
  refine l_ld hx hbb hX hbl hbA hw (by omega) hL d_law_498 ?_
  refine lr_calli (rest := []) S hw k_l_r_changes (c_r_changes l (xs (i + 1)) M U T cn hM hU hc20) hi0 ⟨Nat.le_of_ble_eq_true rfl, Nat.le_of_ble_eq_true rfl⟩ rfl hl.1 rfl (Nat.le_of_ble_eq_true rfl) ⟨Nat.le_of_ble_eq_true rfl, Nat.le_of_ble_eq_true rfl⟩ d_law_499 (fun r1 σ1 H locs hq1 hw => ?_)
  refine lv_aload_n hx hbb d_law_502 rfl (lv_at hl 2 rfl) ?_
  refine lv_aload_n hx hbb d_law_503 rfl (lv_at hl 0 rfl) ?_
  refine lv_iload_n hx hbb d_law_504 rfl (lv_at hl 3 rfl) ?_
  refine lv_iconst (v := nI 1) hx hbb d_law_505 (by decide) ?_
  refine ln_iadd hx hbb d_law_506 ?_
  refine l_ld hx hbb hX hbl hbA hw (by omega) hL d_law_507 ?_
  refine lm_calli (rest := [.int (r1)]) S hw k_l_m_changes (c_m_changes l (xs (i + 1)) M U T cn) hmr ⟨Nat.le_of_ble_eq_true rfl, Nat.le_of_ble_eq_true rfl⟩ rfl hl.1 rfl (Nat.le_of_ble_eq_true rfl) ⟨Nat.le_of_ble_eq_true rfl, Nat.le_of_ble_eq_true rfl⟩ d_law_508 (fun r2 μ1 H locs hq2 hw => ?_)
  obtain ⟨heq, hrel⟩ := step_ch hM hU hi0 hmr hcn hq1 hq2
  exact lv_icmp_eq (tgt := 516) hx hbb d_law_511 (by decide) (fun _ => hk _ _ _ _ hrel hw) (fun h => absurd heq h)
end LAWC
end
section
/-! THE CLAIM OUT OF ONE WALK OF THE LAW'S BODY. Your part is whole_start (and what it stands on); all else here is the same for every law, but numbers. -/
def lw_P (b : Addr) (xs : List Int32) (args : Array Value) (s : State) : Prop := args = #[.ref b] ∧ s.IntsAt b xs ∧ xs.length ≤ 2048 ∧ (Jvm.Cond.and given_1 narrow_1).before args s = true
def lw_Q (_ : Array Value) (s : State) (o : Outcome) (t : State) : Prop := o = .returned (some (.int 1)) ∧ Framed s o t [] 17 2234
def lw_Z (below : List Frame) (a : Array Value) (s : State) : State → Prop := fun t => ∃ o, t.status = .running ∧ Ended t below o ∧ lw_Q a s o t
/-- the law's own end, with 1 on the stack, nothing written that was there before, its room as the claim has it -/
theorem lw_ret {p : Program} {l : Launch} {e : Env} {s : State} {m : MethodId} {below : List Frame} {meth : Method} {c : Code} {b : Nat} (hx : p.tables.exec = Jvm.exec) (hb : c.code = code) (hr : meth.sig.returnType = ret) (hlocks : meth.locks = false) {pc : Nat} {H : Heap} {ls : Array Slot} (hdg : decode code pc = .ok (.ireturn, 1)) : W p l e room_1 s m #[Value.ref b] below meth c H [] 17 2234 (lw_Z below #[Value.ref b] s) (F0 m pc ls [.int 1]) := by
  intro T hT X
  obtain ⟨fs, hret, hrun, hended, hW, hframe⟩ := X.leave (v := some (.int 1)) (hlocks := hlocks) (fun h => by rw [hr] at h; cases h)
  have hmeth' : T.vm.method? m = some meth := X.method'
  refine ⟨T.setFrames fs, ?_, .returned (some (.int 1)), hrun, hended, rfl, ⟨_, rfl⟩, hW, hframe⟩
  jvm_step X.here [X.here.top, hx, hb, hdg, hmeth', hr, ret, narrow_b1]
  (try refine ⟨rfl, ?_⟩); (try refine ⟨rfl, ?_⟩)
  first | (intro acts; rw [hret _ acts rfl rfl rfl]) | rw [hret _ _ rfl rfl rfl]
  exact Steps.refl _
/-- what holds at the law's entry: the machine, the code, the tables' words (any of lw_tbl by 'hts w (by decide +kernel)'), the script of L ints xs at the cell b, what the Statement gives of the start (any of its parts by flat_of_before) -/
def lw_At (p : Program) (s : State) (m : MethodId) (meth : Method) (c : Code) (b L : Nat) (xs : Nat → Int32) : Prop :=
  p.tables.exec = Jvm.exec ∧ c.code = code ∧ meth.sig.returnType = ret ∧ c.maxLocals = 4 ∧ s.vm.findClass R_law = some m.cls ∧ (∀ w ∈ lw_tbl, w.before #[Value.ref b] s = true) ∧ va_X b L xs s s.heap ∧ b < s.heap.size ∧ meth.locks = false ∧ (Jvm.Cond.and given_1 narrow_1).before #[Value.ref b] s = true
theorem def_rr : ∀ j, j < 21 → defaultValue (t_rr j) = vp_V [.int 0, .int 0, .int 0, .null, .null, .null, .null, .null, .null, .null, .null, .null, .int 0, .int 0, .int 0, .int 0, .null, .null, .null, .int 0, .int 0] j := by
  intro j hj
  match j, hj with
  | 0, _ => rfl
  | 1, _ => rfl
  | 2, _ => rfl
  | 3, _ => rfl
  | 4, _ => rfl
  | 5, _ => rfl
  | 6, _ => rfl
  | 7, _ => rfl
  | 8, _ => rfl
  | 9, _ => rfl
  | 10, _ => rfl
  | 11, _ => rfl
  | 12, _ => rfl
  | 13, _ => rfl
  | 14, _ => rfl
  | 15, _ => rfl
  | 16, _ => rfl
  | 17, _ => rfl
  | 18, _ => rfl
  | 19, _ => rfl
  | 20, _ => rfl
  | j + 21, h => exact absurd h (by omega)
theorem def_md : ∀ j, j < 5 → defaultValue (t_md j) = vp_V [.null, .null, .null, .int 0, .int 0] j := by
  intro j hj
  match j, hj with
  | 0, _ => rfl
  | 1, _ => rfl
  | 2, _ => rfl
  | 3, _ => rfl
  | 4, _ => rfl
  | j + 5, h => exact absurd h (by omega)
theorem good_w {y : MethodName} {b : ByteArray} {n : Nat} {ret : Option FieldType} (h : Cond.code y b n ret ∈ gw_tbl) : GoodIn gw_tbl (.code y b n ret :: gw_tbl) := by
  intro w hw
  have key : w ∈ gw_tbl := by
    rcases List.mem_cons.mp hw with rfl | q
    · exact h
    · exact q
  exact ⟨key, lw_good w key⟩
theorem law_more {L i : Nat} (hL : L ≤ 2048) (hi : i ≤ L) (h : ¬ nI L - nI 4 < nI i) : i + 4 ≤ L := by
  rw [Int32.lt_iff_toInt_lt, pk_sub_toInt (by omega) (by omega), nI_toInt (by omega)] at h
  omega
theorem law_and : (nI 15).toBitVec.toNat = 2 ^ 4 - 1 := by decide
set_option maxHeartbeats 4000000 in
set_option maxRecDepth 100000 in
/-- the law's loop: after b calls of each, ring and model tell the same -/
theorem law_loop {p : Program} {l : Launch} {e : Env} {s : State} {m : MethodId} {below : List Frame} {meth : Method} {c : Code} {D : va_G} {ad bd : Nat → Nat} {cs ds : Nat → ClassId} {bs L : Nat} {xs : Nat → Int32} (hL : L ≤ 2048) (C0 : lw_At p s m meth c bs L xs) :
    ∀ (n i b : Nat), i = 4 * b → i ≤ L → L + 4 ≤ i + 4 * n → ∀ (σ μ : St) (H : Heap) (locs : List Loc) (ls : Array Slot), Rel b σ μ → lW D ad cs bd ds (fun q : Nat => s.heap.size ≤ q) s σ μ H locs → lv_has ls 4 [(0, .ref bs), (1, .ref (ad 0)), (2, .ref (bd 0)), (3, .int (nI i))] → W p l e room_1 s m #[Value.ref bs] below meth c H locs 17 2234 (lw_Z below #[Value.ref bs] s) (F0 m 18 ls []) := by
  obtain ⟨hx, hb, hr, hml, hown, hts0, hX, hbl, hlocks, hgv⟩ := C0
  have hts : ∀ w ∈ gw_tbl, w.before #[Value.ref bs] s = true := fun w hw => hts0 w (List.mem_filter.mp hw).1
  have S : CallFix p m c code 4 s #[Value.ref bs] gw_tbl R_law := ⟨hx, hb, hml, hown, hts⟩
  have hbA : ¬ (fun q : Nat => s.heap.size ≤ q) bs := Nat.not_le.mpr hbl
  intro n
  induction n with
  | zero =>
    intro i b h1 h2 h3
    exact absurd h3 (by omega)
  | succ n ih =>
    intro i b hib hi hn σ μ H locs ls hrel hw hl
    refine lv_iload_n hx hb d_law_18 rfl (lv_at hl 3 rfl) ?_
    refine lv_aload_n hx hb d_law_19 rfl (lv_at hl 0 rfl) ?_
    refine va_slen hx hb hX hbl hbA hw.2.2.2.1 d_law_20 ?_
    refine lv_iconst (v := nI 4) hx hb d_law_21 (by decide) ?_
    refine lv_isub hx hb d_law_22 ?_
    refine lv_icmp_gt (tgt := 522) hx hb d_law_23 (by decide) (fun c_23 => ?_) (fun c_23 => ?_)
    · refine lv_iconst (v := 1) hx hb d_law_522 (by decide) ?_
      refine va_forget (fun q hq => hw.2.2.2.1.2.2 q hq) ?_
      exact lw_ret hx hb hr hlocks d_law_523
    · have hi4 : i + 4 ≤ L := law_more hL hi c_23
      have hk : ∀ (σ' μ' : St) (H' : Heap) (locs' : List Loc), Rel (b + 1) σ' μ' → lW D ad cs bd ds (fun q : Nat => s.heap.size ≤ q) s σ' μ' H' locs' → W p l e room_1 s m #[Value.ref bs] below meth c H' locs' 17 2234 (lw_Z below #[Value.ref bs] s) (F0 m 516 ls []) := by
        intro σ' μ' H' locs' hrel' hw'
        refine lv_iinc (v := nI (i + 4)) (lv' := [(3, .int (nI (i + 4))), (0, .ref bs), (1, .ref (ad 0)), (2, .ref (bd 0))]) hx hb d_law_516 hl (k := 3) rfl (by rw [show Int32.ofInt 4 = nI 4 from by decide, nI_add]) (by decide) rfl (fun ls hl => ?_)
        refine lv_goto (tgt := 18) hx hb d_law_519 (by decide) ?_
        exact ih (i + 4) (b + 1) (by omega) hi4 (by omega) σ' μ' H' locs' ls hrel' hw' (lv_sub hl [1, 2, 3, 0] rfl)
      refine lv_aload_n hx hb d_law_26 rfl (lv_at hl 0 rfl) ?_
      refine lv_iload_n hx hb d_law_27 rfl (lv_at hl 3 rfl) ?_
      refine l_ld hx hb hX hbl hbA hw (by omega) hL d_law_28 ?_
      refine lv_bipush (v := nI 15) hx hb d_law_29 (by decide) ?_
      refine lv_iand hx hb d_law_31 ?_
      obtain ⟨j, hj, ej⟩ := pk_andE (xs i) 4 law_and
      refine ln_top ej ?_
      rcases (show j = 0 ∨ j = 1 ∨ j = 2 ∨ j = 3 ∨ j = 4 ∨ j = 5 ∨ j = 6 ∨ j = 7 ∨ j = 8 ∨ j = 9 ∨ j = 10 ∨ j = 11 ∨ j = 12 ∨ j = 13 ∨ j = 14 ∨ j = 15 by omega) with rfl | rfl | rfl | rfl | rfl | rfl | rfl | rfl | rfl | rfl | rfl | rfl | rfl | rfl | rfl | rfl
      · refine lv_tableIn (tgt := 112) (off := 80) hx hb d_law_32 (by decide) (by decide) (by decide) (by decide) ?_
        exact law_case_0 S hX hbl hbA hL hi4 (by omega) hrel hw hl hk
      · refine lv_tableIn (tgt := 155) (off := 123) hx hb d_law_32 (by decide) (by decide) (by decide) (by decide) ?_
        exact law_case_1 S hX hbl hbA hL hi4 (by omega) hrel hw hl hk
      · refine lv_tableIn (tgt := 188) (off := 156) hx hb d_law_32 (by decide) (by decide) (by decide) (by decide) ?_
        exact law_case_2 S hX hbl hbA hL hi4 (by omega) hrel hw hl hk
      · refine lv_tableIn (tgt := 221) (off := 189) hx hb d_law_32 (by decide) (by decide) (by decide) (by decide) ?_
        exact law_case_3 S hX hbl hbA hL hi4 (by omega) hrel hw hl hk
      · refine lv_tableIn (tgt := 264) (off := 232) hx hb d_law_32 (by decide) (by decide) (by decide) (by decide) ?_
        exact law_case_4 S hX hbl hbA hL hi4 (by omega) hrel hw hl hk
      · refine lv_tableIn (tgt := 287) (off := 255) hx hb d_law_32 (by decide) (by decide) (by decide) (by decide) ?_
        exact law_case_5 S hX hbl hbA hL hi4 (by omega) hrel hw hl hk
      · refine lv_tableIn (tgt := 336) (off := 304) hx hb d_law_32 (by decide) (by decide) (by decide) (by decide) ?_
        exact law_case_6 S hX hbl hbA hL hi4 (by omega) hrel hw hl hk
      · refine lv_tableIn (tgt := 359) (off := 327) hx hb d_law_32 (by decide) (by decide) (by decide) (by decide) ?_
        exact law_case_7 S hX hbl hbA hL hi4 (by omega) hrel hw hl hk
      · refine lv_tableIn (tgt := 382) (off := 350) hx hb d_law_32 (by decide) (by decide) (by decide) (by decide) ?_
        exact law_case_8 S hX hbl hbA hL hi4 (by omega) hrel hw hl hk
      · refine lv_tableIn (tgt := 405) (off := 373) hx hb d_law_32 (by decide) (by decide) (by decide) (by decide) ?_
        exact law_case_9 S hX hbl hbA hL hi4 (by omega) hrel hw hl hk
      · refine lv_tableIn (tgt := 418) (off := 386) hx hb d_law_32 (by decide) (by decide) (by decide) (by decide) ?_
        exact law_case_10 S hX hbl hbA hL hi4 (by omega) hrel hw hl hk
      · refine lv_tableIn (tgt := 431) (off := 399) hx hb d_law_32 (by decide) (by decide) (by decide) (by decide) ?_
        exact law_case_11 S hX hbl hbA hL hi4 (by omega) hrel hw hl hk
      · refine lv_tableIn (tgt := 444) (off := 412) hx hb d_law_32 (by decide) (by decide) (by decide) (by decide) ?_
        exact law_case_12 S hX hbl hbA hL hi4 (by omega) hrel hw hl hk
      · refine lv_tableIn (tgt := 457) (off := 425) hx hb d_law_32 (by decide) (by decide) (by decide) (by decide) ?_
        exact law_case_13 S hX hbl hbA hL hi4 (by omega) hrel hw hl hk
      · refine lv_tableIn (tgt := 480) (off := 448) hx hb d_law_32 (by decide) (by decide) (by decide) (by decide) ?_
        exact law_case_14 S hX hbl hbA hL hi4 (by omega) hrel hw hl hk
      · refine lv_tableIn (tgt := 493) (off := 461) hx hb d_law_32 (by decide) (by decide) (by decide) (by decide) ?_
        exact law_case_15 S hX hbl hbA hL hi4 (by omega) hrel hw hl hk
set_option maxHeartbeats 8000000 in
set_option maxRecDepth 100000 in
/-- THE LAW, from its entry -/
theorem whole_start {p : Program} {e : Env} {s : State} {m : MethodId} {below : List Frame} {meth : Method} {c : Code} (l : Launch) {b L : Nat} {xs : Nat → Int32} (hL : L ≤ 2048) (C0 : lw_At p s m meth c b L xs) : W p l e room_1 s m #[Value.ref b] below meth c s.heap [] 0 0 (lw_Z below #[Value.ref b] s) (entryFrame m ([Value.ref b] : List Value).toArray 4) := by
  obtain ⟨hx, hb, hr, hml, hown, hts0, hX, hbl, hlocks, hgv⟩ := id C0
  have hts : ∀ w ∈ gw_tbl, w.before #[Value.ref b] s = true := fun w hw => hts0 w (List.mem_filter.mp hw).1
  have hA : ∀ q : Nat, s.heap.size ≤ q → (fun q : Nat => s.heap.size ≤ q) q := fun _ h => h
  obtain ⟨c0, iS0, hKn0⟩ := u_known (C := R_rr) (T := F_rr) (N := 21) (n := 21) hts i_rr (hts _ q_make_r)
  obtain ⟨c1, iS1, hKn1⟩ := u_known (C := R_md) (T := F_md) (N := 5) (n := 5) hts i_md (hts _ q_make_m)
  obtain ⟨D, hKc⟩ : ∃ D : va_G, ∀ (k : Nat) (q : vw_C), classes[k]? = some q → u_Kn s q.1 q.2.1 q.2.2 (D.1 k) (D.2 k) := by
    refine ⟨(fun k => if k = 0 then c0 else c1, fun k => if k = 0 then iS0 else iS1), ?_⟩
    intro k q hq
    match k, hq with
    | 0, hq => cases hq; exact hKn0
    | 1, hq => cases hq; exact hKn1
    | k + 2, hq => simp [classes] at hq
  have hS : va_S (fun q : Nat => s.heap.size ≤ q) s.heap s.heap [] := va_S.rf
  have hK : va_K D classes [] s := ⟨hKc, fun k q h => by simp at h⟩
  have hP : va_P D classes [] s.heap := fun k q h => by simp at h
  have hD : va_D (fun q : Nat => s.heap.size ≤ q) [] := ⟨fun i j p q h => by simp at h, fun k q h => by simp at h⟩
  have hl := lv_entry ([.ref b]) (n := 4) (Nat.le_of_ble_eq_true rfl)
  rw [lg_entry_eq]
  generalize (lg_sl ([.ref b]) ++ List.replicate (4 - (lg_sl ([.ref b])).length) Slot.unset).toArray = ls at hl ⊢
  have hl : lv_has ls 4 [(0, .ref b)] := hl
  refine va_new (ci := 0) (fs := [.int 0, .int 0, .int 0, .null, .null, .null, .null, .null, .null, .null, .null, .null, .int 0, .int 0, .int 0, .int 0, .null, .null, .null, .int 0, .int 0]) (C := R_rr) (T := F_rr) (N := 21) hx hb hts i_rr t_rr t_rr_ok hown (hts _ q_cls_r) (hts _ q_make_r) (hts _ q_ini_r) hK hP hD hS hA rfl def_rr (Nat.le_of_ble_eq_true rfl) (Nat.le_of_ble_eq_true rfl) d_law_0 (fun q0 H hP hD hS => ?_)
  have hP : va_P D classes [(q0, .inr (0, [.int 0, .int 0, .int 0, .null, .null, .null, .null, .null, .null, .null, .null, .null, .int 0, .int 0, .int 0, .int 0, .null, .null, .null, .int 0, .int 0]))] H := hP
  have hD : va_D (fun q : Nat => s.heap.size ≤ q) [(q0, .inr (0, [.int 0, .int 0, .int 0, .null, .null, .null, .null, .null, .null, .null, .null, .null, .int 0, .int 0, .int 0, .int 0, .null, .null, .null, .int 0, .int 0]))] := hD
  refine W.widen (k := 1) (n := 21) (by omega) (by omega) ?_
  refine lv_dup hx hb d_law_3 rfl ?_
  have hFc := va_free (wc := [(q0, .inr (0, [.int 0, .int 0, .int 0, .null, .null, .null, .null, .null, .null, .null, .null, .null, .int 0, .int 0, .int 0, .int 0, .null, .null, .null, .int 0, .int 0]))]) hD hS hA [0] rfl
  refine va_callv (va_runI (As := []) (rest := [.ref q0]) ⟨hx, hb, hml, hown, hts⟩ (c_r_init l D q0 H.size) (cwI 0 hts (good_w q_code_r_init) rfl rfl rfl (hts _ q_ini_r) (hts _ q_link_l_r_init) (hts _ q_inst_r_init) rfl (by decide +kernel) ⟨Nat.le_of_ble_eq_true rfl, Nat.le_of_ble_eq_true rfl⟩) ⟨fun a U g mk q => by obtain ⟨q0, q1, qP, qK, qD⟩ := q; exact ⟨q0, q1, qP, va_K.moved (u := U) (U := U.calling g mk a) (Vm.Alike.refl U.vm) qK, qD⟩, fun U hU hW => ⟨rfl, by rw [hU], by rw [hU]; exact hP, va_K.moved hW.alike hK, hD.weaken (fun _ _ _ _ => trivial)⟩⟩ rfl rfl hl.1 rfl (lv_room (Nat.le_of_ble_eq_true rfl)) d_law_4 ⟨Nat.le_of_ble_eq_true rfl, Nat.le_of_ble_eq_true rfl⟩) hS (fun q _ h => hFc q h) hFc (fun u t H1 locs ht hvm hpo hB hz1 hk1 hS => ?_)
  obtain ⟨ad, cs, σ⟩ := u
  obtain ⟨h00, hinv⟩ := hpo
  have h00 : ad 0 = q0 := h00
  have hinv : Inv 7 7 T0 σ := hinv
  subst h00
  obtain ⟨hP1, hK1, hD1⟩ := hB
  rw [ht] at hP1
  have hK1 := va_K.moved hvm.symm hK1
  obtain ⟨hP, hD⟩ := va_join (wr := []) (w1 := wr ad cs σ) hP hD [0] [] rfl rfl (by decide) (by decide) hk1 hFc hP1 hD1
  have hK : va_K D classes (tr_ cs) s := hK1
  have hP : va_P D classes (wr ad cs σ) H1 := hP
  have hD : va_D (fun q : Nat => s.heap.size ≤ q) (wr ad cs σ) := hD
  refine W.widen (k := 13) (n := 2181) (by omega) (by omega) ?_
  refine lv_astore_n (lv' := [(1, .ref (ad 0)), (0, .ref b)]) hx hb d_law_7 rfl hl (by decide) rfl (fun ls hl => ?_)
  refine va_new (ci := 1) (fs := [.null, .null, .null, .int 0, .int 0]) (C := R_md) (T := F_md) (N := 5) hx hb hts i_md t_md t_md_ok hown (hts _ q_cls_m) (hts _ q_make_m) (hts _ q_ini_m) hK hP hD hS hA rfl def_md (Nat.le_of_ble_eq_true rfl) (Nat.le_of_ble_eq_true rfl) d_law_8 (fun p0 H hP hD hS => ?_)
  have hP : va_P D classes (wr ad cs σ ++ [(p0, .inr (1, [.null, .null, .null, .int 0, .int 0]))]) H := hP
  have hD : va_D (fun q : Nat => s.heap.size ≤ q) (wr ad cs σ ++ [(p0, .inr (1, [.null, .null, .null, .int 0, .int 0]))]) := hD
  refine W.widen (k := 14) (n := 2186) (by omega) (by omega) ?_
  refine lv_dup hx hb d_law_11 rfl ?_
  have hPc := hP.sub (ws' := [(p0, .inr (1, [.null, .null, .null, .int 0, .int 0]))]) [13] rfl
  have hDc := hD.sub (ws' := [(p0, .inr (1, [.null, .null, .null, .int 0, .int 0]))]) [13] (by decide) rfl
  have hKc := hK.sub (tys' := []) [] rfl
  have hFc := va_free (wc := [(p0, .inr (1, [.null, .null, .null, .int 0, .int 0]))]) hD hS hA [13] rfl
  refine va_callv (va_runI (As := []) (rest := [.ref p0]) ⟨hx, hb, hml, hown, hts⟩ (c_m_init l D p0 H.size) (cwI 0 hts (good_w q_code_m_init) rfl rfl rfl (hts _ q_ini_m) (hts _ q_link_l_m_init) (hts _ q_inst_m_init) rfl (by decide +kernel) ⟨Nat.le_of_ble_eq_true rfl, Nat.le_of_ble_eq_true rfl⟩) ⟨fun a U g mk q => by obtain ⟨q0, q1, qP, qK, qD⟩ := q; exact ⟨q0, q1, qP, va_K.moved (u := U) (U := U.calling g mk a) (Vm.Alike.refl U.vm) qK, qD⟩, fun U hU hW => ⟨rfl, by rw [hU], by rw [hU]; exact hPc, va_K.moved hW.alike hKc, hDc.weaken (fun _ _ _ _ => trivial)⟩⟩ rfl rfl hl.1 rfl (lv_room (Nat.le_of_ble_eq_true rfl)) d_law_12 ⟨Nat.le_of_ble_eq_true rfl, Nat.le_of_ble_eq_true rfl⟩) hS (fun q _ h => hFc q h) hFc (fun u t H1 locs ht hvm hpo hB hz1 hk1 hS => ?_)
  obtain ⟨bd, ds, μ⟩ := u
  obtain ⟨h00, hmu⟩ := hpo
  have h00 : bd 0 = p0 := h00
  have hmu : μ = mI := hmu
  subst h00
  subst hmu
  obtain ⟨hP1, hK1, hD1⟩ := hB
  rw [ht] at hP1
  have hK1 := va_K.moved hvm.symm hK1
  obtain ⟨hP, hD⟩ := va_join (wr := wr ad cs σ) (w1 := wm bd ds mI) hP hD [13] [0, 1, 2, 3, 4, 5, 6, 7, 8, 9, 10, 11, 12] rfl rfl (by decide) (by decide) hk1 hFc hP1 hD1
  have hw : lW D ad cs bd ds (fun q : Nat => s.heap.size ≤ q) s σ mI H1 locs := ⟨hK.app hK1, hP, hD, hS, hA⟩
  refine W.widen (k := 17) (n := 2234) (by omega) (by omega) ?_
  refine lv_astore_n (lv' := [(2, .ref (bd 0)), (1, .ref (ad 0)), (0, .ref b)]) hx hb d_law_15 rfl hl (by decide) rfl (fun ls hl => ?_)
  refine lv_iconst (v := nI 0) hx hb d_law_16 (by decide) ?_
  refine lv_istore_n (lv' := [(3, .int (nI 0)), (2, .ref (bd 0)), (1, .ref (ad 0)), (0, .ref b)]) hx hb d_law_17 rfl hl (by decide) rfl (fun ls hl => ?_)
  exact law_loop hL C0 (L + 1) 0 0 rfl (Nat.zero_le L) (by omega) σ mI H1 locs ls ⟨7, 7, T0, fun _ => 0, ok7, okW_self ok7, hinv, init_md, fun k _ => ⟨rfl, Nat.zero_le _⟩⟩ hw (lv_sub hl [3, 2, 1, 0] rfl)
end
section
set_option maxHeartbeats 4000000 in
theorem lw_walk (l : Launch) (b : Addr) (xs : List Int32) : MetFree l x (headSpec (Jvm.Cond.code x code maxLocals ret :: tables_1) room_1) (lw_P b xs) (fun _ _ _ _ _ => True) lw_Q := by
  refine MetFree.of_bodyS (code := code) (maxLocals := maxLocals) (ret := ret) (by decide) ?_ ?_
  · intro args s m h hn
    obtain ⟨meth, c, h1, h2, h3, h4, h5, h6, -, -⟩ := Cond.code_spec hn (atoms_spec (ws := Jvm.Cond.code x code maxLocals ret :: tables_1) h _ List.mem_cons_self)
    exact ⟨meth, c, h1, h2, h3, h4, h5, h6⟩
  · intro p e s m args below meth c s₁ B hml0 hP _
    obtain ⟨rfl, hx, hbd, hgv⟩ := hP
    obtain ⟨scr, harrAt, hlist, hof, hsmall⟩ := hx
    obtain ⟨hcb, hkn, -, -⟩ := State.arrayAt?_spec harrAt
    have hown : s.vm.findClass R_law = some m.cls := findClass_of_methodNamed B.named
    have hts0 : ∀ c ∈ (Jvm.Cond.code x code maxLocals ret :: tables_1), c.before #[Value.ref b] s = true := atoms_spec (ws := Jvm.Cond.code x code maxLocals ret :: tables_1) B.pre
    have hts : ∀ w ∈ lw_tbl, w.before #[Value.ref b] s = true := k2_hts_sels lw_privs (fun w hw => hts0 w (List.mem_cons_of_mem _ hw)) lw_privs_ok
    have hml : c.maxLocals = 4 := B.maxLocals_eq (hts0 _ List.mem_cons_self)
    have X₀ : Stand p l e room_1 s m #[Value.ref b] below meth c s₁ [] 0 0 := Stand.of_body B
    have hh0 : s₁.heap = s.heap := by rw [B.state]; rfl
    have hsz : scr.slots.size = xs.length := by rw [← Array.length_toList, hlist, List.length_map]
    have hval : ∀ j : Nat, j < xs.length → scr.slots[j]? = some (.int (xs.getD j 0)) := fun j hj => by
      rw [← Array.getElem?_toList, hlist]
      simp [hj]
    have hbl : b < s.heap.size := (Array.getElem?_eq_some_iff.mp hcb).1
    have hX : va_X b xs.length (fun j => xs.getD j 0) s s.heap := ⟨scr, hcb, hof, hkn, hsz, hval⟩
    have K : W p l e room_1 s m #[Value.ref b] below meth c s₁.heap [] 0 0 (lw_Z below #[Value.ref b] s) (entryFrame m ([Value.ref b] : List Value).toArray 4) := by
      rw [hh0]
      exact whole_start l hbd ⟨B.exec, B.bytes, B.returns, hml, hown, hts, hX, hbl, B.notSynchronized, hgv⟩
    obtain ⟨t, a1, o, b1, b2, b3⟩ := K s₁ rfl X₀
    exact ⟨t, o, a1, b1, b2, b3⟩
theorem lw_pre_spec {args : Array Value} {s : State} (h : (Jvm.Cond.and given_1 narrow_1).before args s = true) (hr : rest_1_c.before args s = true) : ∃ (b : Addr) (xs : List Int32), lw_P b xs args s := by
  have hs := flat_of_before _ h
  have hq := flat_of_before _ hr
  have hc : (Cond.count 1).before args s = true := hs _ (by decide +kernel)
  have harr : (Cond.arrayOf (.arg 0) .int).before args s = true := hs _ (by decide +kernel)
  have hle : (Cond.le (.length (.arg 0)) (.int 2048)).before args s = true := hs _ (by decide +kernel)
  have hlen : (Cond.isInt (.length (.arg 0))).before args s = true := hq _ (by decide +kernel)
  have hall : (Cond.all (.arg 0) (.isInt (.elem (.arg 0) (.index 0)))).before args s = true := hq _ (by decide +kernel)
  obtain ⟨b, xs, hb, hx⟩ := State.ints_of_pre rfl harr hlen hall
  have hsm : xs.length < 2 ^ 31 := hx.choose_spec.2.2.2
  have hev : (Term.length (.arg 0)).eval args s none [] s = some (.int xs.length.toInt32) := hx.length_eval hb
  have hv := Cond.le_ints hev (show (Term.int 2048).eval args s none [] s = some (.int 2048) from rfl)
  have hd : xs.length.toInt32 ≤ 2048 := by
    simpa [Cond.before, Cond.holds, hv] using hle
  have hN : xs.length ≤ 2048 := (Int32.ofNat_le_ofNat hsm (by decide)).mp (show Int32.ofNat xs.length ≤ Int32.ofNat 2048 from hd)
  exact ⟨b, xs, Cond.one_arg hc (show args[0]? = some (.ref b) from hb), hx, hN, h⟩
theorem lw_comes (l : Launch) : Comes l x (Jvm.Cond.code x code maxLocals ret :: tables_1) room_1 (fun tb e args s => Calls_1 tb e args s ∧ rest_1 tb e args s ∧ Pre_1 tb e args s)
    (fun _ _ args s o t => lw_Q args s o t) := by
  intro p e ha hc hk s m args below hf hfit hheap happ hpre
  obtain ⟨b, xs, hP⟩ := lw_pre_spec hpre.2.2 hpre.2.1
  obtain ⟨k, o, h1, h2, h3, hQ⟩ := lw_walk l b xs p e ha hc hk s m args below hf ((Spec.applies_iff_loose hf).mp happ).1 hP trivial
  exact ⟨k, o, h1, h2, h3, hQ⟩
theorem lw_frame {s t : State} {o : Outcome} {args : Array Value} (h : Framed s o t [] 17 2234) :
    Framed s o t (fieldLocs frame_1_writes args s ++ arrayLocs frame_1_arrays args s ++ staticLocs frame_1_statics s) 17 2234 := h
theorem lw_limb (L : Cond) (hL : ∀ (args : Array Value) (s t : State), L.after args s (.returned (some (.int 1))) t = true) :
    ArmFor flags0 classFile x code maxLocals ret World_1 tables_1 room_1 Calls_1 rest_1 Pre_1
      (fun tb e a s o t => postC L tb e a s o t ∧ Framed s o t (fieldLocs frame_1_writes a s ++ arrayLocs frame_1_arrays a s ++ staticLocs frame_1_statics s) 17 2234) := by
  intro l _ _ _ p e ha hc hk s m args below hf hfit hheap happ hpre
  obtain ⟨k, o, h1, h2, h3, rfl, hF⟩ := lw_comes l p e ha hc hk s m args below hf hfit hheap happ hpre
  exact ⟨k, _, h1, h2, h3, hL args s _, lw_frame hF⟩
theorem i_vc : Claimed_1_1 ∧ Claimed_1_2 := ⟨lw_limb limb_1_1 (fun args s t => by simp [limb_1_1, Cond.after, Cond.holds, Cond.value]), lw_limb limb_1_2 (fun args s t => Cond.after_iff.mpr (by
  first | (rw [show limb_1_2 = Cond.eq .result (.int 1) from rfl, Cond.eq_ints (x := 1) (y := 1) rfl rfl]; simp; done) | (simp [limb_1_2, Cond.value, Term.eval]; done)))⟩
end
