section
-- ===== PART A: goes FIRST, ahead of the names: the tables' words, and 'selects' of the private methods out of them =====
/-- a private method of a class that the tables say can be made, by its rows of tables_1 -/
def lw_okq (q : MethodName × Nat) : Prop := (q.1.cls ≠ "java/lang/invoke/MethodHandle" ∧ q.1.cls ≠ "java/lang/invoke/VarHandle") ∧ Cond.instantiable q.1.cls q.2 ∈ tables_1 ∧ Cond.privateMethod q.1 ∈ tables_1 ∧ Cond.instanceMethod q.1 ∈ tables_1
theorem lw_p0 : lw_okq (⟨"WornFlash", "lost", "()I"⟩, 13) := ⟨⟨by decide +kernel, by decide +kernel⟩, List.mem_of_getElem? (i := 11) (by decide +kernel), List.mem_of_getElem? (i := 143) (by decide +kernel), List.mem_of_getElem? (i := 144) (by decide +kernel)⟩
theorem lw_p1 : lw_okq (⟨"WornFlash", "rebuild", "()V"⟩, 13) := ⟨⟨by decide +kernel, by decide +kernel⟩, List.mem_of_getElem? (i := 11) (by decide +kernel), List.mem_of_getElem? (i := 147) (by decide +kernel), List.mem_of_getElem? (i := 148) (by decide +kernel)⟩
theorem lw_p2 : lw_okq (⟨"WornFlash", "push", "(LWornFlash$Block;)V"⟩, 13) := ⟨⟨by decide +kernel, by decide +kernel⟩, List.mem_of_getElem? (i := 11) (by decide +kernel), List.mem_of_getElem? (i := 151) (by decide +kernel), List.mem_of_getElem? (i := 152) (by decide +kernel)⟩
theorem lw_p3 : lw_okq (⟨"WornFlash", "serialAt", "(I)I"⟩, 13) := ⟨⟨by decide +kernel, by decide +kernel⟩, List.mem_of_getElem? (i := 11) (by decide +kernel), List.mem_of_getElem? (i := 169) (by decide +kernel), List.mem_of_getElem? (i := 170) (by decide +kernel)⟩
theorem lw_p4 : lw_okq (⟨"WornFlash", "collect", "(LWornFlash$Policy;)Z"⟩, 13) := ⟨⟨by decide +kernel, by decide +kernel⟩, List.mem_of_getElem? (i := 11) (by decide +kernel), List.mem_of_getElem? (i := 177) (by decide +kernel), List.mem_of_getElem? (i := 178) (by decide +kernel)⟩
theorem lw_p5 : lw_okq (⟨"WornFlash", "program", "(IIZ)Z"⟩, 13) := ⟨⟨by decide +kernel, by decide +kernel⟩, List.mem_of_getElem? (i := 11) (by decide +kernel), List.mem_of_getElem? (i := 199) (by decide +kernel), List.mem_of_getElem? (i := 200) (by decide +kernel)⟩
theorem lw_p6 : lw_okq (⟨"WornFlash", "operate", "()Z"⟩, 13) := ⟨⟨by decide +kernel, by decide +kernel⟩, List.mem_of_getElem? (i := 11) (by decide +kernel), List.mem_of_getElem? (i := 203) (by decide +kernel), List.mem_of_getElem? (i := 204) (by decide +kernel)⟩
theorem lw_p7 : lw_okq (⟨"WornFlash", "erase", "(LWornFlash$Block;)Z"⟩, 13) := ⟨⟨by decide +kernel, by decide +kernel⟩, List.mem_of_getElem? (i := 11) (by decide +kernel), List.mem_of_getElem? (i := 207) (by decide +kernel), List.mem_of_getElem? (i := 208) (by decide +kernel)⟩
theorem lw_p8 : lw_okq (⟨"WornFlash", "put", "(IIZ)I"⟩, 13) := ⟨⟨by decide +kernel, by decide +kernel⟩, List.mem_of_getElem? (i := 11) (by decide +kernel), List.mem_of_getElem? (i := 219) (by decide +kernel), List.mem_of_getElem? (i := 220) (by decide +kernel)⟩
theorem lw_p9 : lw_okq (⟨"WornFlash", "isSector", "(I)Z"⟩, 13) := ⟨⟨by decide +kernel, by decide +kernel⟩, List.mem_of_getElem? (i := 11) (by decide +kernel), List.mem_of_getElem? (i := 223) (by decide +kernel), List.mem_of_getElem? (i := 224) (by decide +kernel)⟩
theorem lw_p10 : lw_okq (⟨"WornFlash", "entry", "(I)LWornFlash$Entry;"⟩, 13) := ⟨⟨by decide +kernel, by decide +kernel⟩, List.mem_of_getElem? (i := 11) (by decide +kernel), List.mem_of_getElem? (i := 227) (by decide +kernel), List.mem_of_getElem? (i := 228) (by decide +kernel)⟩
theorem lw_p11 : lw_okq (⟨"WornFlash", "store", "()Z"⟩, 13) := ⟨⟨by decide +kernel, by decide +kernel⟩, List.mem_of_getElem? (i := 11) (by decide +kernel), List.mem_of_getElem? (i := 231) (by decide +kernel), List.mem_of_getElem? (i := 232) (by decide +kernel)⟩
theorem lw_p12 : lw_okq (⟨"WornFlash", "provide", "()Z"⟩, 13) := ⟨⟨by decide +kernel, by decide +kernel⟩, List.mem_of_getElem? (i := 11) (by decide +kernel), List.mem_of_getElem? (i := 235) (by decide +kernel), List.mem_of_getElem? (i := 236) (by decide +kernel)⟩
theorem lw_p13 : lw_okq (⟨"WornFlash", "pop", "()LWornFlash$Block;"⟩, 13) := ⟨⟨by decide +kernel, by decide +kernel⟩, List.mem_of_getElem? (i := 11) (by decide +kernel), List.mem_of_getElem? (i := 239) (by decide +kernel), List.mem_of_getElem? (i := 240) (by decide +kernel)⟩
theorem lw_p14 : lw_okq (⟨"WornFlash", "isWorn", "()Z"⟩, 13) := ⟨⟨by decide +kernel, by decide +kernel⟩, List.mem_of_getElem? (i := 11) (by decide +kernel), List.mem_of_getElem? (i := 243) (by decide +kernel), List.mem_of_getElem? (i := 244) (by decide +kernel)⟩
theorem lw_p15 : lw_okq (⟨"WornFlash", "programmed", "(I)LWornFlash$Block;"⟩, 13) := ⟨⟨by decide +kernel, by decide +kernel⟩, List.mem_of_getElem? (i := 11) (by decide +kernel), List.mem_of_getElem? (i := 283) (by decide +kernel), List.mem_of_getElem? (i := 284) (by decide +kernel)⟩
def lw_privs_1 : List (MethodName × Nat) := [(⟨"WornFlash", "lost", "()I"⟩, 13), (⟨"WornFlash", "rebuild", "()V"⟩, 13), (⟨"WornFlash", "push", "(LWornFlash$Block;)V"⟩, 13), (⟨"WornFlash", "serialAt", "(I)I"⟩, 13), (⟨"WornFlash", "collect", "(LWornFlash$Policy;)Z"⟩, 13), (⟨"WornFlash", "program", "(IIZ)Z"⟩, 13), (⟨"WornFlash", "operate", "()Z"⟩, 13), (⟨"WornFlash", "erase", "(LWornFlash$Block;)Z"⟩, 13), (⟨"WornFlash", "put", "(IIZ)I"⟩, 13), (⟨"WornFlash", "isSector", "(I)Z"⟩, 13), (⟨"WornFlash", "entry", "(I)LWornFlash$Entry;"⟩, 13), (⟨"WornFlash", "store", "()Z"⟩, 13), (⟨"WornFlash", "provide", "()Z"⟩, 13), (⟨"WornFlash", "pop", "()LWornFlash$Block;"⟩, 13), (⟨"WornFlash", "isWorn", "()Z"⟩, 13), (⟨"WornFlash", "programmed", "(I)LWornFlash$Block;"⟩, 13)]
theorem lw_r1 : ∀ q ∈ lw_privs_1, lw_okq q := List.forall_mem_cons.mpr ⟨lw_p0, List.forall_mem_cons.mpr ⟨lw_p1, List.forall_mem_cons.mpr ⟨lw_p2, List.forall_mem_cons.mpr ⟨lw_p3, List.forall_mem_cons.mpr ⟨lw_p4, List.forall_mem_cons.mpr ⟨lw_p5, List.forall_mem_cons.mpr ⟨lw_p6, List.forall_mem_cons.mpr ⟨lw_p7, List.forall_mem_cons.mpr ⟨lw_p8, List.forall_mem_cons.mpr ⟨lw_p9, List.forall_mem_cons.mpr ⟨lw_p10, List.forall_mem_cons.mpr ⟨lw_p11, List.forall_mem_cons.mpr ⟨lw_p12, List.forall_mem_cons.mpr ⟨lw_p13, List.forall_mem_cons.mpr ⟨lw_p14, List.forall_mem_cons.mpr ⟨lw_p15, fun _ h => absurd h List.not_mem_nil⟩⟩⟩⟩⟩⟩⟩⟩⟩⟩⟩⟩⟩⟩⟩⟩
theorem lw_p16 : lw_okq (⟨"WornFlash", "isBlock", "(I)Z"⟩, 13) := ⟨⟨by decide +kernel, by decide +kernel⟩, List.mem_of_getElem? (i := 11) (by decide +kernel), List.mem_of_getElem? (i := 295) (by decide +kernel), List.mem_of_getElem? (i := 296) (by decide +kernel)⟩
theorem lw_p17 : lw_okq (⟨"WornFlashModel", "programmed", "(I)I"⟩, 16) := ⟨⟨by decide +kernel, by decide +kernel⟩, List.mem_of_getElem? (i := 318) (by decide +kernel), List.mem_of_getElem? (i := 381) (by decide +kernel), List.mem_of_getElem? (i := 382) (by decide +kernel)⟩
theorem lw_p18 : lw_okq (⟨"WornFlashModel", "freeBlocks", "()I"⟩, 16) := ⟨⟨by decide +kernel, by decide +kernel⟩, List.mem_of_getElem? (i := 318) (by decide +kernel), List.mem_of_getElem? (i := 385) (by decide +kernel), List.mem_of_getElem? (i := 386) (by decide +kernel)⟩
theorem lw_p19 : lw_okq (⟨"WornFlashModel", "pick", "(IZ)I"⟩, 16) := ⟨⟨by decide +kernel, by decide +kernel⟩, List.mem_of_getElem? (i := 318) (by decide +kernel), List.mem_of_getElem? (i := 389) (by decide +kernel), List.mem_of_getElem? (i := 390) (by decide +kernel)⟩
theorem lw_p20 : lw_okq (⟨"WornFlashModel", "validIn", "(I)I"⟩, 16) := ⟨⟨by decide +kernel, by decide +kernel⟩, List.mem_of_getElem? (i := 318) (by decide +kernel), List.mem_of_getElem? (i := 394) (by decide +kernel), List.mem_of_getElem? (i := 395) (by decide +kernel)⟩
theorem lw_p21 : lw_okq (⟨"WornFlashModel", "isValid", "(I)Z"⟩, 16) := ⟨⟨by decide +kernel, by decide +kernel⟩, List.mem_of_getElem? (i := 318) (by decide +kernel), List.mem_of_getElem? (i := 398) (by decide +kernel), List.mem_of_getElem? (i := 399) (by decide +kernel)⟩
theorem lw_p22 : lw_okq (⟨"WornFlashModel", "newest", "(I)I"⟩, 16) := ⟨⟨by decide +kernel, by decide +kernel⟩, List.mem_of_getElem? (i := 318) (by decide +kernel), List.mem_of_getElem? (i := 402) (by decide +kernel), List.mem_of_getElem? (i := 403) (by decide +kernel)⟩
theorem lw_p23 : lw_okq (⟨"WornFlashModel", "collect", "(I)Z"⟩, 16) := ⟨⟨by decide +kernel, by decide +kernel⟩, List.mem_of_getElem? (i := 318) (by decide +kernel), List.mem_of_getElem? (i := 406) (by decide +kernel), List.mem_of_getElem? (i := 407) (by decide +kernel)⟩
theorem lw_p24 : lw_okq (⟨"WornFlashModel", "put", "(III)Z"⟩, 16) := ⟨⟨by decide +kernel, by decide +kernel⟩, List.mem_of_getElem? (i := 318) (by decide +kernel), List.mem_of_getElem? (i := 410) (by decide +kernel), List.mem_of_getElem? (i := 411) (by decide +kernel)⟩
theorem lw_p25 : lw_okq (⟨"WornFlashModel", "operates", "()Z"⟩, 16) := ⟨⟨by decide +kernel, by decide +kernel⟩, List.mem_of_getElem? (i := 318) (by decide +kernel), List.mem_of_getElem? (i := 414) (by decide +kernel), List.mem_of_getElem? (i := 415) (by decide +kernel)⟩
theorem lw_p26 : lw_okq (⟨"WornFlashModel", "change", "(III)I"⟩, 16) := ⟨⟨by decide +kernel, by decide +kernel⟩, List.mem_of_getElem? (i := 318) (by decide +kernel), List.mem_of_getElem? (i := 422) (by decide +kernel), List.mem_of_getElem? (i := 423) (by decide +kernel)⟩
theorem lw_p27 : lw_okq (⟨"WornFlashModel", "isSector", "(I)Z"⟩, 16) := ⟨⟨by decide +kernel, by decide +kernel⟩, List.mem_of_getElem? (i := 318) (by decide +kernel), List.mem_of_getElem? (i := 426) (by decide +kernel), List.mem_of_getElem? (i := 427) (by decide +kernel)⟩
theorem lw_p28 : lw_okq (⟨"WornFlashModel", "find", "(I)I"⟩, 16) := ⟨⟨by decide +kernel, by decide +kernel⟩, List.mem_of_getElem? (i := 318) (by decide +kernel), List.mem_of_getElem? (i := 431) (by decide +kernel), List.mem_of_getElem? (i := 432) (by decide +kernel)⟩
theorem lw_p29 : lw_okq (⟨"WornFlashModel", "store", "()Z"⟩, 16) := ⟨⟨by decide +kernel, by decide +kernel⟩, List.mem_of_getElem? (i := 318) (by decide +kernel), List.mem_of_getElem? (i := 435) (by decide +kernel), List.mem_of_getElem? (i := 436) (by decide +kernel)⟩
theorem lw_p30 : lw_okq (⟨"WornFlashModel", "room", "()Z"⟩, 16) := ⟨⟨by decide +kernel, by decide +kernel⟩, List.mem_of_getElem? (i := 318) (by decide +kernel), List.mem_of_getElem? (i := 439) (by decide +kernel), List.mem_of_getElem? (i := 440) (by decide +kernel)⟩
theorem lw_p31 : lw_okq (⟨"WornFlashModel", "uneven", "()Z"⟩, 16) := ⟨⟨by decide +kernel, by decide +kernel⟩, List.mem_of_getElem? (i := 318) (by decide +kernel), List.mem_of_getElem? (i := 443) (by decide +kernel), List.mem_of_getElem? (i := 444) (by decide +kernel)⟩
def lw_privs_2 : List (MethodName × Nat) := [(⟨"WornFlash", "isBlock", "(I)Z"⟩, 13), (⟨"WornFlashModel", "programmed", "(I)I"⟩, 16), (⟨"WornFlashModel", "freeBlocks", "()I"⟩, 16), (⟨"WornFlashModel", "pick", "(IZ)I"⟩, 16), (⟨"WornFlashModel", "validIn", "(I)I"⟩, 16), (⟨"WornFlashModel", "isValid", "(I)Z"⟩, 16), (⟨"WornFlashModel", "newest", "(I)I"⟩, 16), (⟨"WornFlashModel", "collect", "(I)Z"⟩, 16), (⟨"WornFlashModel", "put", "(III)Z"⟩, 16), (⟨"WornFlashModel", "operates", "()Z"⟩, 16), (⟨"WornFlashModel", "change", "(III)I"⟩, 16), (⟨"WornFlashModel", "isSector", "(I)Z"⟩, 16), (⟨"WornFlashModel", "find", "(I)I"⟩, 16), (⟨"WornFlashModel", "store", "()Z"⟩, 16), (⟨"WornFlashModel", "room", "()Z"⟩, 16), (⟨"WornFlashModel", "uneven", "()Z"⟩, 16)]
theorem lw_r2 : ∀ q ∈ lw_privs_2, lw_okq q := List.forall_mem_cons.mpr ⟨lw_p16, List.forall_mem_cons.mpr ⟨lw_p17, List.forall_mem_cons.mpr ⟨lw_p18, List.forall_mem_cons.mpr ⟨lw_p19, List.forall_mem_cons.mpr ⟨lw_p20, List.forall_mem_cons.mpr ⟨lw_p21, List.forall_mem_cons.mpr ⟨lw_p22, List.forall_mem_cons.mpr ⟨lw_p23, List.forall_mem_cons.mpr ⟨lw_p24, List.forall_mem_cons.mpr ⟨lw_p25, List.forall_mem_cons.mpr ⟨lw_p26, List.forall_mem_cons.mpr ⟨lw_p27, List.forall_mem_cons.mpr ⟨lw_p28, List.forall_mem_cons.mpr ⟨lw_p29, List.forall_mem_cons.mpr ⟨lw_p30, List.forall_mem_cons.mpr ⟨lw_p31, fun _ h => absurd h List.not_mem_nil⟩⟩⟩⟩⟩⟩⟩⟩⟩⟩⟩⟩⟩⟩⟩⟩
theorem lw_p32 : lw_okq (⟨"WornFlashModel", "isPlace", "(I)Z"⟩, 16) := ⟨⟨by decide +kernel, by decide +kernel⟩, List.mem_of_getElem? (i := 318) (by decide +kernel), List.mem_of_getElem? (i := 480) (by decide +kernel), List.mem_of_getElem? (i := 481) (by decide +kernel)⟩
theorem lw_p33 : lw_okq (⟨"WornFlashModel", "isBlock", "(I)Z"⟩, 16) := ⟨⟨by decide +kernel, by decide +kernel⟩, List.mem_of_getElem? (i := 318) (by decide +kernel), List.mem_of_getElem? (i := 492) (by decide +kernel), List.mem_of_getElem? (i := 493) (by decide +kernel)⟩
def lw_privs_3 : List (MethodName × Nat) := [(⟨"WornFlashModel", "isPlace", "(I)Z"⟩, 16), (⟨"WornFlashModel", "isBlock", "(I)Z"⟩, 16)]
theorem lw_r3 : ∀ q ∈ lw_privs_3, lw_okq q := List.forall_mem_cons.mpr ⟨lw_p32, List.forall_mem_cons.mpr ⟨lw_p33, fun _ h => absurd h List.not_mem_nil⟩⟩
def lw_privs : List (MethodName × Nat) := lw_privs_1 ++ (lw_privs_2 ++ (lw_privs_3))
def lw_tbl : List Cond := k2_sels lw_privs ++ tables_1
theorem lw_privs_ok : ∀ q ∈ lw_privs, lw_okq q := by
  show ∀ q ∈ lw_privs_1 ++ (lw_privs_2 ++ (lw_privs_3)), lw_okq q
  exact List.forall_mem_append.mpr ⟨lw_r1, List.forall_mem_append.mpr ⟨lw_r2, lw_r3⟩⟩
/-! the tables' words that every shift keeps; those of nest mates and of the interface stand apart -/
def tbG : List Cond := lw_tbl.filter goodWord
end
section
def R_W : String := "WornFlash"
def R_B : String := "WornFlash$Block"
def R_E : String := "WornFlash$Entry"
def R_G : String := "WornFlash$Greedy"
def R_V : String := "WornFlash$Levelling"
def R_M : String := "WornFlashModel"
def R_law : String := "WornFlashLaw"
def R_Int : String := "java/lang/Integer"
def R_Math : String := "java/lang/Math"
def R_Rec : String := "java/lang/Record"
def F_B : u_T := fun k => match k with
  | 0 => ("WornFlash$Block", "number", "I", true)
  | 1 => ("WornFlash$Block", "erasures", "I", false)
  | 2 => ("WornFlash$Block", "used", "I", false)
  | 3 => ("WornFlash$Block", "valid", "I", false)
  | 4 => ("WornFlash$Block", "sector", "[B", true)
  | 5 => ("WornFlash$Block", "value", "[I", true)
  | 6 => ("WornFlash$Block", "serial", "[I", true)
  | _ => ("WornFlash$Block", "trim", "[Z", true)
def t_B : Nat → FieldType := fun k => match k with
  | 0 => .int
  | 1 => .int
  | 2 => .int
  | 3 => .int
  | 4 => .array (.byte)
  | 5 => .array (.int)
  | 6 => .array (.int)
  | _ => .array (.boolean)
theorem n_B : ∀ a, a < 8 → ∀ b, b < 8 → a ≠ b → (F_B a).2.1 ≠ (F_B b).2.1 := by decide +kernel
theorem t_B_ok : ∀ k, k < 8 → parseFieldDescriptor (F_B k).2.2.1 = some (t_B k) := by decide +kernel
theorem i_B : ∀ w ∈ u_ws R_B F_B 8, w ∈ tbG := by decide +kernel
def F_E : u_T := fun k => match k with
  | 0 => ("WornFlash$Entry", "sector", "I", false)
  | 1 => ("WornFlash$Entry", "value", "I", false)
  | _ => ("WornFlash$Entry", "trim", "Z", false)
def t_E : Nat → FieldType := fun k => match k with
  | 0 => .int
  | 1 => .int
  | _ => .boolean
theorem n_E : ∀ a, a < 3 → ∀ b, b < 3 → a ≠ b → (F_E a).2.1 ≠ (F_E b).2.1 := by decide +kernel
theorem t_E_ok : ∀ k, k < 3 → parseFieldDescriptor (F_E k).2.2.1 = some (t_E k) := by decide +kernel
theorem i_E : ∀ w ∈ u_ws R_E F_E 3, w ∈ tbG := by decide +kernel
def F_G : u_T := fun k => match k with
  | _ => ("", "", "", false)
def t_G : Nat → FieldType := fun k => match k with
  | _ => .int
theorem n_G : ∀ a, a < 0 → ∀ b, b < 0 → a ≠ b → (F_G a).2.1 ≠ (F_G b).2.1 := by decide +kernel
theorem t_G_ok : ∀ k, k < 0 → parseFieldDescriptor (F_G k).2.2.1 = some (t_G k) := by decide +kernel
theorem i_G : ∀ w ∈ u_ws R_G F_G 0, w ∈ tbG := by decide +kernel
def F_V : u_T := fun k => match k with
  | _ => ("", "", "", false)
def t_V : Nat → FieldType := fun k => match k with
  | _ => .int
theorem n_V : ∀ a, a < 0 → ∀ b, b < 0 → a ≠ b → (F_V a).2.1 ≠ (F_V b).2.1 := by decide +kernel
theorem t_V_ok : ∀ k, k < 0 → parseFieldDescriptor (F_V k).2.2.1 = some (t_V k) := by decide +kernel
theorem i_V : ∀ w ∈ u_ws R_V F_V 0, w ∈ tbG := by decide +kernel
def F_W : u_T := fun k => match k with
  | 0 => ("WornFlash", "spread", "I", true)
  | 1 => ("WornFlash", "blocks", "[LWornFlash$Block;", true)
  | 2 => ("WornFlash", "places", "[B", true)
  | 3 => ("WornFlash", "serials", "I", false)
  | 4 => ("WornFlash", "operations", "I", false)
  | 5 => ("WornFlash", "fuse", "I", false)
  | 6 => ("WornFlash", "open", "LWornFlash$Block;", false)
  | 7 => ("WornFlash", "heap", "[LWornFlash$Block;", true)
  | 8 => ("WornFlash", "heapSize", "I", false)
  | 9 => ("WornFlash", "buffer", "[LWornFlash$Entry;", true)
  | 10 => ("WornFlash", "entries", "I", false)
  | 11 => ("WornFlash", "greedy", "LWornFlash$Policy;", true)
  | _ => ("WornFlash", "levelling", "LWornFlash$Policy;", true)
def t_W : Nat → FieldType := fun k => match k with
  | 0 => .int
  | 1 => .array (.object "WornFlash$Block")
  | 2 => .array (.byte)
  | 3 => .int
  | 4 => .int
  | 5 => .int
  | 6 => .object "WornFlash$Block"
  | 7 => .array (.object "WornFlash$Block")
  | 8 => .int
  | 9 => .array (.object "WornFlash$Entry")
  | 10 => .int
  | 11 => .object "WornFlash$Policy"
  | _ => .object "WornFlash$Policy"
theorem n_W : ∀ a, a < 13 → ∀ b, b < 13 → a ≠ b → (F_W a).2.1 ≠ (F_W b).2.1 := by decide +kernel
theorem t_W_ok : ∀ k, k < 13 → parseFieldDescriptor (F_W k).2.2.1 = some (t_W k) := by decide +kernel
theorem i_W : ∀ w ∈ u_ws R_W F_W 13, w ∈ tbG := by decide +kernel
def F_M : u_T := fun k => match k with
  | 0 => ("WornFlashModel", "blocks", "I", true)
  | 1 => ("WornFlashModel", "spread", "I", true)
  | 2 => ("WornFlashModel", "sectorOf", "[I", true)
  | 3 => ("WornFlashModel", "valueOf", "[I", true)
  | 4 => ("WornFlashModel", "serialOf", "[I", true)
  | 5 => ("WornFlashModel", "sortOf", "[I", true)
  | 6 => ("WornFlashModel", "erased", "[I", true)
  | 7 => ("WornFlashModel", "nextSerial", "I", false)
  | 8 => ("WornFlashModel", "open", "I", false)
  | 9 => ("WornFlashModel", "operations", "I", false)
  | 10 => ("WornFlashModel", "fuse", "I", false)
  | 11 => ("WornFlashModel", "gone", "Z", false)
  | 12 => ("WornFlashModel", "entries", "I", false)
  | 13 => ("WornFlashModel", "entrySector", "[I", true)
  | 14 => ("WornFlashModel", "entryValue", "[I", true)
  | _ => ("WornFlashModel", "entrySort", "[I", true)
def t_M : Nat → FieldType := fun k => match k with
  | 0 => .int
  | 1 => .int
  | 2 => .array (.int)
  | 3 => .array (.int)
  | 4 => .array (.int)
  | 5 => .array (.int)
  | 6 => .array (.int)
  | 7 => .int
  | 8 => .int
  | 9 => .int
  | 10 => .int
  | 11 => .boolean
  | 12 => .int
  | 13 => .array (.int)
  | 14 => .array (.int)
  | _ => .array (.int)
theorem n_M : ∀ a, a < 16 → ∀ b, b < 16 → a ≠ b → (F_M a).2.1 ≠ (F_M b).2.1 := by decide +kernel
theorem t_M_ok : ∀ k, k < 16 → parseFieldDescriptor (F_M k).2.2.1 = some (t_M k) := by decide +kernel
theorem i_M : ∀ w ∈ u_ws R_M F_M 16, w ∈ tbG := by decide +kernel
abbrev classes : List vw_C := [(R_B, F_B, 8), (R_E, F_E, 3), (R_G, F_G, 0), (R_V, F_V, 0), (R_W, F_W, 13), (R_M, F_M, 16)]
def y_W_init : MethodName := ⟨R_W, "<init>", "(II)V"⟩
abbrev b_W_init : ByteArray := prog_1_method_1_code
def y_E_init : MethodName := ⟨R_E, "<init>", "()V"⟩
abbrev b_E_init : ByteArray := prog_3_method_1_code
def y_G_init : MethodName := ⟨R_G, "<init>", "()V"⟩
abbrev b_G_init : ByteArray := prog_4_method_1_code
def y_J_recInit : MethodName := ⟨R_Rec, "<init>", "()V"⟩
abbrev b_J_recInit : ByteArray := prog_12_method_1_code
def y_V_init : MethodName := ⟨R_V, "<init>", "()V"⟩
abbrev b_V_init : ByteArray := prog_5_method_1_code
def y_B_init : MethodName := ⟨R_B, "<init>", "(I)V"⟩
abbrev b_B_init : ByteArray := prog_2_method_1_code
def y_W_cut : MethodName := ⟨R_W, "cut", "()V"⟩
abbrev b_W_cut : ByteArray := prog_1_method_14_code
def y_W_lost : MethodName := ⟨R_W, "lost", "()I"⟩
abbrev b_W_lost : ByteArray := prog_1_method_11_code
def y_W_rebuild : MethodName := ⟨R_W, "rebuild", "()V"⟩
abbrev b_W_rebuild : ByteArray := prog_1_method_12_code
def y_W_push : MethodName := ⟨R_W, "push", "(LWornFlash$Block;)V"⟩
abbrev b_W_push : ByteArray := prog_1_method_2_code
def y_B_cmp : MethodName := ⟨R_B, "compareTo", "(LWornFlash$Block;)I"⟩
abbrev b_B_cmp : ByteArray := prog_2_method_2_code
def y_J_compare : MethodName := ⟨R_Int, "compare", "(II)I"⟩
abbrev b_J_compare : ByteArray := prog_10_method_40_code
def y_B_isFull : MethodName := ⟨R_B, "isFull", "()Z"⟩
abbrev b_B_isFull : ByteArray := prog_2_method_3_code
def y_J_max : MethodName := ⟨R_Math, "max", "(II)I"⟩
abbrev b_J_max : ByteArray := prog_11_method_65_code
def y_W_serialAt : MethodName := ⟨R_W, "serialAt", "(I)I"⟩
abbrev b_W_serialAt : ByteArray := prog_1_method_13_code
def y_B_place : MethodName := ⟨R_B, "place", "(I)I"⟩
abbrev b_B_place : ByteArray := prog_2_method_4_code
def y_W_collect : MethodName := ⟨R_W, "collect", "(LWornFlash$Policy;)Z"⟩
abbrev b_W_collect : ByteArray := prog_1_method_9_code
def y_G_prefers : MethodName := ⟨R_G, "prefers", "(LWornFlash$Block;LWornFlash$Block;)Z"⟩
abbrev b_G_prefers : ByteArray := prog_4_method_2_code
def y_V_prefers : MethodName := ⟨R_V, "prefers", "(LWornFlash$Block;LWornFlash$Block;)Z"⟩
abbrev b_V_prefers : ByteArray := prog_5_method_2_code
def y_W_program : MethodName := ⟨R_W, "program", "(IIZ)Z"⟩
abbrev b_W_program : ByteArray := prog_1_method_6_code
def y_W_operate : MethodName := ⟨R_W, "operate", "()Z"⟩
abbrev b_W_operate : ByteArray := prog_1_method_4_code
def y_W_erase : MethodName := ⟨R_W, "erase", "(LWornFlash$Block;)Z"⟩
abbrev b_W_erase : ByteArray := prog_1_method_7_code
def y_W_fuse : MethodName := ⟨R_W, "fuse", "(I)Z"⟩
abbrev b_W_fuse : ByteArray := prog_1_method_15_code
def y_W_write : MethodName := ⟨R_W, "write", "(II)I"⟩
abbrev b_W_write : ByteArray := prog_1_method_19_code
def y_W_put : MethodName := ⟨R_W, "put", "(IIZ)I"⟩
abbrev b_W_put : ByteArray := prog_1_method_18_code
def y_W_isSector : MethodName := ⟨R_W, "isSector", "(I)Z"⟩
abbrev b_W_isSector : ByteArray := prog_1_method_5_code
def y_W_entry : MethodName := ⟨R_W, "entry", "(I)LWornFlash$Entry;"⟩
abbrev b_W_entry : ByteArray := prog_1_method_17_code
def y_W_store : MethodName := ⟨R_W, "store", "()Z"⟩
abbrev b_W_store : ByteArray := prog_1_method_16_code
def y_W_provide : MethodName := ⟨R_W, "provide", "()Z"⟩
abbrev b_W_provide : ByteArray := prog_1_method_10_code
def y_W_pop : MethodName := ⟨R_W, "pop", "()LWornFlash$Block;"⟩
abbrev b_W_pop : ByteArray := prog_1_method_3_code
def y_W_isWorn : MethodName := ⟨R_W, "isWorn", "()Z"⟩
abbrev b_W_isWorn : ByteArray := prog_1_method_8_code
def y_E_set : MethodName := ⟨R_E, "set", "(IIZ)V"⟩
abbrev b_E_set : ByteArray := prog_3_method_2_code
def y_W_trim : MethodName := ⟨R_W, "trim", "(I)I"⟩
abbrev b_W_trim : ByteArray := prog_1_method_20_code
def y_W_flush : MethodName := ⟨R_W, "flush", "()I"⟩
abbrev b_W_flush : ByteArray := prog_1_method_21_code
def y_W_sectors : MethodName := ⟨R_W, "sectors", "()I"⟩
abbrev b_W_sectors : ByteArray := prog_1_method_22_code
def y_W_read : MethodName := ⟨R_W, "read", "(I)I"⟩
abbrev b_W_read : ByteArray := prog_1_method_23_code
def y_W_holds : MethodName := ⟨R_W, "holds", "(I)I"⟩
abbrev b_W_holds : ByteArray := prog_1_method_24_code
def y_W_buffered : MethodName := ⟨R_W, "buffered", "()I"⟩
abbrev b_W_buffered : ByteArray := prog_1_method_25_code
def y_W_place : MethodName := ⟨R_W, "place", "(I)I"⟩
abbrev b_W_place : ByteArray := prog_1_method_26_code
def y_W_tag : MethodName := ⟨R_W, "tag", "(I)I"⟩
abbrev b_W_tag : ByteArray := prog_1_method_28_code
def y_W_programmed : MethodName := ⟨R_W, "programmed", "(I)LWornFlash$Block;"⟩
abbrev b_W_programmed : ByteArray := prog_1_method_27_code
def y_W_serial : MethodName := ⟨R_W, "serial", "(I)I"⟩
abbrev b_W_serial : ByteArray := prog_1_method_29_code
def y_W_valid : MethodName := ⟨R_W, "valid", "(I)I"⟩
abbrev b_W_valid : ByteArray := prog_1_method_31_code
def y_W_isBlock : MethodName := ⟨R_W, "isBlock", "(I)Z"⟩
abbrev b_W_isBlock : ByteArray := prog_1_method_30_code
def y_W_erasures : MethodName := ⟨R_W, "erasures", "(I)I"⟩
abbrev b_W_erasures : ByteArray := prog_1_method_32_code
def y_W_open : MethodName := ⟨R_W, "open", "()I"⟩
abbrev b_W_open : ByteArray := prog_1_method_33_code
def y_W_free : MethodName := ⟨R_W, "free", "()I"⟩
abbrev b_W_free : ByteArray := prog_1_method_34_code
def y_W_operations : MethodName := ⟨R_W, "operations", "()I"⟩
abbrev b_W_operations : ByteArray := prog_1_method_35_code
def y_L_cell : MethodName := ⟨R_law, "cell", "([II)I"⟩
abbrev b_L_cell : ByteArray := method_2_code
def y_M_init : MethodName := ⟨R_M, "<init>", "(II)V"⟩
abbrev b_M_init : ByteArray := prog_8_method_1_code
def y_M_sectors : MethodName := ⟨R_M, "sectors", "()I"⟩
abbrev b_M_sectors : ByteArray := prog_8_method_2_code
def y_M_cut : MethodName := ⟨R_M, "cut", "()V"⟩
abbrev b_M_cut : ByteArray := prog_8_method_18_code
def y_M_programmed : MethodName := ⟨R_M, "programmed", "(I)I"⟩
abbrev b_M_programmed : ByteArray := prog_8_method_6_code
def y_M_freeBlocks : MethodName := ⟨R_M, "freeBlocks", "()I"⟩
abbrev b_M_freeBlocks : ByteArray := prog_8_method_10_code
def y_M_pick : MethodName := ⟨R_M, "pick", "(IZ)I"⟩
abbrev b_M_pick : ByteArray := prog_8_method_11_code
def y_M_validIn : MethodName := ⟨R_M, "validIn", "(I)I"⟩
abbrev b_M_validIn : ByteArray := prog_8_method_9_code
def y_M_isValid : MethodName := ⟨R_M, "isValid", "(I)Z"⟩
abbrev b_M_isValid : ByteArray := prog_8_method_8_code
def y_M_newest : MethodName := ⟨R_M, "newest", "(I)I"⟩
abbrev b_M_newest : ByteArray := prog_8_method_7_code
def y_M_collect : MethodName := ⟨R_M, "collect", "(I)Z"⟩
abbrev b_M_collect : ByteArray := prog_8_method_15_code
def y_M_put : MethodName := ⟨R_M, "put", "(III)Z"⟩
abbrev b_M_put : ByteArray := prog_8_method_14_code
def y_M_operates : MethodName := ⟨R_M, "operates", "()Z"⟩
abbrev b_M_operates : ByteArray := prog_8_method_13_code
def y_M_write : MethodName := ⟨R_M, "write", "(II)I"⟩
abbrev b_M_write : ByteArray := prog_8_method_21_code
def y_M_change : MethodName := ⟨R_M, "change", "(III)I"⟩
abbrev b_M_change : ByteArray := prog_8_method_20_code
def y_M_isSector : MethodName := ⟨R_M, "isSector", "(I)Z"⟩
abbrev b_M_isSector : ByteArray := prog_8_method_3_code
def y_M_find : MethodName := ⟨R_M, "find", "(I)I"⟩
abbrev b_M_find : ByteArray := prog_8_method_19_code
def y_M_store : MethodName := ⟨R_M, "store", "()Z"⟩
abbrev b_M_store : ByteArray := prog_8_method_17_code
def y_M_room : MethodName := ⟨R_M, "room", "()Z"⟩
abbrev b_M_room : ByteArray := prog_8_method_16_code
def y_M_uneven : MethodName := ⟨R_M, "uneven", "()Z"⟩
abbrev b_M_uneven : ByteArray := prog_8_method_12_code
def y_M_trim : MethodName := ⟨R_M, "trim", "(I)I"⟩
abbrev b_M_trim : ByteArray := prog_8_method_22_code
def y_M_flush : MethodName := ⟨R_M, "flush", "()I"⟩
abbrev b_M_flush : ByteArray := prog_8_method_23_code
def y_M_fuse : MethodName := ⟨R_M, "fuse", "(I)Z"⟩
abbrev b_M_fuse : ByteArray := prog_8_method_24_code
def y_M_read : MethodName := ⟨R_M, "read", "(I)I"⟩
abbrev b_M_read : ByteArray := prog_8_method_25_code
def y_M_holds : MethodName := ⟨R_M, "holds", "(I)I"⟩
abbrev b_M_holds : ByteArray := prog_8_method_26_code
def y_M_buffered : MethodName := ⟨R_M, "buffered", "()I"⟩
abbrev b_M_buffered : ByteArray := prog_8_method_27_code
def y_M_place : MethodName := ⟨R_M, "place", "(I)I"⟩
abbrev b_M_place : ByteArray := prog_8_method_28_code
def y_M_tag : MethodName := ⟨R_M, "tag", "(I)I"⟩
abbrev b_M_tag : ByteArray := prog_8_method_29_code
def y_M_isPlace : MethodName := ⟨R_M, "isPlace", "(I)Z"⟩
abbrev b_M_isPlace : ByteArray := prog_8_method_5_code
def y_M_serial : MethodName := ⟨R_M, "serial", "(I)I"⟩
abbrev b_M_serial : ByteArray := prog_8_method_30_code
def y_M_valid : MethodName := ⟨R_M, "valid", "(I)I"⟩
abbrev b_M_valid : ByteArray := prog_8_method_31_code
def y_M_isBlock : MethodName := ⟨R_M, "isBlock", "(I)Z"⟩
abbrev b_M_isBlock : ByteArray := prog_8_method_4_code
def y_M_erasures : MethodName := ⟨R_M, "erasures", "(I)I"⟩
abbrev b_M_erasures : ByteArray := prog_8_method_32_code
def y_M_open : MethodName := ⟨R_M, "open", "()I"⟩
abbrev b_M_open : ByteArray := prog_8_method_33_code
def y_M_free : MethodName := ⟨R_M, "free", "()I"⟩
abbrev b_M_free : ByteArray := prog_8_method_34_code
def y_M_operations : MethodName := ⟨R_M, "operations", "()I"⟩
abbrev b_M_operations : ByteArray := prog_8_method_35_code
def y_P_prefers : MethodName := ⟨"WornFlash$Policy", "prefers", "(LWornFlash$Block;LWornFlash$Block;)Z"⟩
def tbN : List Cond := [Cond.methodLinkNest R_W 9 y_E_init "WornFlash", Cond.fieldLinkNest R_W 154 "WornFlash$Entry" "sector" "I" "WornFlash", Cond.fieldLinkNest R_W 156 "WornFlash$Entry" "value" "I" "WornFlash", Cond.fieldLinkNest R_W 158 "WornFlash$Entry" "trim" "Z" "WornFlash", Cond.methodLinkNest R_W 18 y_G_init "WornFlash", Cond.methodLinkNest R_W 25 y_V_init "WornFlash", Cond.fieldLinkNest R_W 187 "WornFlash$Block" "number" "I" "WornFlash", Cond.fieldLinkNest R_W 100 "WornFlash$Block" "erasures" "I" "WornFlash", Cond.fieldLinkNest R_W 73 "WornFlash$Block" "used" "I" "WornFlash", Cond.fieldLinkNest R_G 7 "WornFlash$Block" "valid" "I" "WornFlash", Cond.fieldLinkNest R_W 93 "WornFlash$Block" "valid" "I" "WornFlash", Cond.fieldLinkNest R_W 76 "WornFlash$Block" "sector" "[B" "WornFlash", Cond.fieldLinkNest R_W 79 "WornFlash$Block" "value" "[I" "WornFlash", Cond.fieldLinkNest R_W 87 "WornFlash$Block" "serial" "[I" "WornFlash", Cond.fieldLinkNest R_W 83 "WornFlash$Block" "trim" "[Z" "WornFlash"]
end
section
theorem k_ini_law : Cond.initialized R_law ∈ tbG := List.mem_filter.mpr ⟨List.mem_of_getElem? (i := 34) (by decide +kernel), rfl⟩
theorem k_ini_W : Cond.initialized R_W ∈ tbG := List.mem_filter.mpr ⟨List.mem_of_getElem? (i := 35) (by decide +kernel), rfl⟩
theorem k_ini_E : Cond.initialized R_E ∈ tbG := List.mem_filter.mpr ⟨List.mem_of_getElem? (i := 36) (by decide +kernel), rfl⟩
theorem k_ini_Rec : Cond.initialized R_Rec ∈ tbG := List.mem_filter.mpr ⟨List.mem_of_getElem? (i := 37) (by decide +kernel), rfl⟩
theorem k_ini_G : Cond.initialized R_G ∈ tbG := List.mem_filter.mpr ⟨List.mem_of_getElem? (i := 38) (by decide +kernel), rfl⟩
theorem k_ini_V : Cond.initialized R_V ∈ tbG := List.mem_filter.mpr ⟨List.mem_of_getElem? (i := 39) (by decide +kernel), rfl⟩
theorem k_ini_B : Cond.initialized R_B ∈ tbG := List.mem_filter.mpr ⟨List.mem_of_getElem? (i := 40) (by decide +kernel), rfl⟩
theorem k_ini_M : Cond.initialized R_M ∈ tbG := List.mem_filter.mpr ⟨List.mem_of_getElem? (i := 41) (by decide +kernel), rfl⟩
theorem k_ini_Int : Cond.initialized R_Int ∈ tbG := List.mem_filter.mpr ⟨List.mem_of_getElem? (i := 42) (by decide +kernel), rfl⟩
theorem k_ini_Math : Cond.initialized R_Math ∈ tbG := List.mem_filter.mpr ⟨List.mem_of_getElem? (i := 43) (by decide +kernel), rfl⟩
theorem k_cl_L_7 : Cond.classLink R_law 7 R_W ∈ tbG := List.mem_filter.mpr ⟨List.mem_of_getElem? (i := 44) (by decide +kernel), rfl⟩
theorem k_ins_W : Cond.instantiable R_W 13 ∈ tbG := List.mem_filter.mpr ⟨List.mem_of_getElem? (i := 45) (by decide +kernel), rfl⟩
theorem k_ml_L_15 : Cond.methodLink R_law 15 y_W_init ∈ tbG := List.mem_filter.mpr ⟨List.mem_of_getElem? (i := 46) (by decide +kernel), rfl⟩
theorem k_im_W_init : Cond.instanceMethod y_W_init ∈ tbG := List.mem_filter.mpr ⟨List.mem_of_getElem? (i := 47) (by decide +kernel), rfl⟩
theorem k_cd_W_init : Cond.code y_W_init b_W_init 5 (Option.none : Option FieldType) ∈ tbG := List.mem_filter.mpr ⟨List.mem_of_getElem? (i := 48) (by decide +kernel), rfl⟩
theorem k_ml_W_1 : Cond.methodLink R_W 1 objectInit ∈ tbG := List.mem_filter.mpr ⟨List.mem_of_getElem? (i := 49) (by decide +kernel), rfl⟩
theorem k_im_objectInit : Cond.instanceMethod objectInit ∈ tbG := List.mem_filter.mpr ⟨List.mem_of_getElem? (i := 50) (by decide +kernel), rfl⟩
theorem k_cd_objectInit : Cond.code objectInit ⟨#[0xb1]⟩ 1 none ∈ tbG := List.mem_filter.mpr ⟨List.mem_of_getElem? (i := 51) (by decide +kernel), rfl⟩
theorem k_cl_W_7 : Cond.classLink R_W 7 R_E ∈ tbG := List.mem_filter.mpr ⟨List.mem_of_getElem? (i := 52) (by decide +kernel), rfl⟩
theorem k_ins_E : Cond.instantiable R_E 3 ∈ tbG := List.mem_filter.mpr ⟨List.mem_of_getElem? (i := 54) (by decide +kernel), rfl⟩
theorem k_im_E_init : Cond.instanceMethod y_E_init ∈ tbG := List.mem_filter.mpr ⟨List.mem_of_getElem? (i := 56) (by decide +kernel), rfl⟩
theorem k_cd_E_init : Cond.code y_E_init b_E_init 1 (Option.none : Option FieldType) ∈ tbG := List.mem_filter.mpr ⟨List.mem_of_getElem? (i := 57) (by decide +kernel), rfl⟩
theorem k_ml_E_1 : Cond.methodLink R_E 1 objectInit ∈ tbG := List.mem_filter.mpr ⟨List.mem_of_getElem? (i := 58) (by decide +kernel), rfl⟩
theorem k_fl_E_7 : Cond.fieldLink R_E 7 "WornFlash$Entry" "sector" "I" ∈ tbG := List.mem_filter.mpr ⟨List.mem_of_getElem? (i := 59) (by decide +kernel), rfl⟩
theorem k_fl_E_13 : Cond.fieldLink R_E 13 "WornFlash$Entry" "value" "I" ∈ tbG := List.mem_filter.mpr ⟨List.mem_of_getElem? (i := 61) (by decide +kernel), rfl⟩
theorem k_fl_E_16 : Cond.fieldLink R_E 16 "WornFlash$Entry" "trim" "Z" ∈ tbG := List.mem_filter.mpr ⟨List.mem_of_getElem? (i := 63) (by decide +kernel), rfl⟩
theorem k_cl_W_16 : Cond.classLink R_W 16 R_G ∈ tbG := List.mem_filter.mpr ⟨List.mem_of_getElem? (i := 72) (by decide +kernel), rfl⟩
theorem k_ins_G : Cond.instantiable R_G 0 ∈ tbG := List.mem_filter.mpr ⟨List.mem_of_getElem? (i := 73) (by decide +kernel), rfl⟩
theorem k_im_G_init : Cond.instanceMethod y_G_init ∈ tbG := List.mem_filter.mpr ⟨List.mem_of_getElem? (i := 75) (by decide +kernel), rfl⟩
theorem k_cd_G_init : Cond.code y_G_init b_G_init 1 (Option.none : Option FieldType) ∈ tbG := List.mem_filter.mpr ⟨List.mem_of_getElem? (i := 76) (by decide +kernel), rfl⟩
theorem k_ml_G_1 : Cond.methodLink R_G 1 y_J_recInit ∈ tbG := List.mem_filter.mpr ⟨List.mem_of_getElem? (i := 77) (by decide +kernel), rfl⟩
theorem k_im_J_recInit : Cond.instanceMethod y_J_recInit ∈ tbG := List.mem_filter.mpr ⟨List.mem_of_getElem? (i := 78) (by decide +kernel), rfl⟩
theorem k_cd_J_recInit : Cond.code y_J_recInit b_J_recInit 1 (Option.none : Option FieldType) ∈ tbG := List.mem_filter.mpr ⟨List.mem_of_getElem? (i := 79) (by decide +kernel), rfl⟩
theorem k_ml_Rec_1 : Cond.methodLink R_Rec 1 objectInit ∈ tbG := List.mem_filter.mpr ⟨List.mem_of_getElem? (i := 80) (by decide +kernel), rfl⟩
theorem k_cl_W_23 : Cond.classLink R_W 23 R_V ∈ tbG := List.mem_filter.mpr ⟨List.mem_of_getElem? (i := 82) (by decide +kernel), rfl⟩
theorem k_ins_V : Cond.instantiable R_V 0 ∈ tbG := List.mem_filter.mpr ⟨List.mem_of_getElem? (i := 83) (by decide +kernel), rfl⟩
theorem k_im_V_init : Cond.instanceMethod y_V_init ∈ tbG := List.mem_filter.mpr ⟨List.mem_of_getElem? (i := 85) (by decide +kernel), rfl⟩
theorem k_cd_V_init : Cond.code y_V_init b_V_init 1 (Option.none : Option FieldType) ∈ tbG := List.mem_filter.mpr ⟨List.mem_of_getElem? (i := 86) (by decide +kernel), rfl⟩
theorem k_ml_V_1 : Cond.methodLink R_V 1 y_J_recInit ∈ tbG := List.mem_filter.mpr ⟨List.mem_of_getElem? (i := 87) (by decide +kernel), rfl⟩
theorem k_cl_W_33 : Cond.classLink R_W 33 R_B ∈ tbG := List.mem_filter.mpr ⟨List.mem_of_getElem? (i := 89) (by decide +kernel), rfl⟩
theorem k_ins_B : Cond.instantiable R_B 8 ∈ tbG := List.mem_filter.mpr ⟨List.mem_of_getElem? (i := 91) (by decide +kernel), rfl⟩
theorem k_ml_W_46 : Cond.methodLink R_W 46 y_B_init ∈ tbG := List.mem_filter.mpr ⟨List.mem_of_getElem? (i := 92) (by decide +kernel), rfl⟩
theorem k_im_B_init : Cond.instanceMethod y_B_init ∈ tbG := List.mem_filter.mpr ⟨List.mem_of_getElem? (i := 93) (by decide +kernel), rfl⟩
theorem k_cd_B_init : Cond.code y_B_init b_B_init 2 (Option.none : Option FieldType) ∈ tbG := List.mem_filter.mpr ⟨List.mem_of_getElem? (i := 94) (by decide +kernel), rfl⟩
theorem k_ml_B_3 : Cond.methodLink R_B 3 objectInit ∈ tbG := List.mem_filter.mpr ⟨List.mem_of_getElem? (i := 95) (by decide +kernel), rfl⟩
theorem k_fl_B_26 : Cond.fieldLink R_B 26 "WornFlash$Block" "number" "I" ∈ tbG := List.mem_filter.mpr ⟨List.mem_of_getElem? (i := 96) (by decide +kernel), rfl⟩
theorem k_fl_B_30 : Cond.fieldLink R_B 30 "WornFlash$Block" "erasures" "I" ∈ tbG := List.mem_filter.mpr ⟨List.mem_of_getElem? (i := 98) (by decide +kernel), rfl⟩
theorem k_fl_B_39 : Cond.fieldLink R_B 39 "WornFlash$Block" "used" "I" ∈ tbG := List.mem_filter.mpr ⟨List.mem_of_getElem? (i := 100) (by decide +kernel), rfl⟩
theorem k_fl_B_9 : Cond.fieldLink R_B 9 "WornFlash$Block" "sector" "[B" ∈ tbG := List.mem_filter.mpr ⟨List.mem_of_getElem? (i := 104) (by decide +kernel), rfl⟩
theorem k_fl_B_15 : Cond.fieldLink R_B 15 "WornFlash$Block" "value" "[I" ∈ tbG := List.mem_filter.mpr ⟨List.mem_of_getElem? (i := 106) (by decide +kernel), rfl⟩
theorem k_fl_B_19 : Cond.fieldLink R_B 19 "WornFlash$Block" "serial" "[I" ∈ tbG := List.mem_filter.mpr ⟨List.mem_of_getElem? (i := 108) (by decide +kernel), rfl⟩
theorem k_fl_B_22 : Cond.fieldLink R_B 22 "WornFlash$Block" "trim" "[Z" ∈ tbG := List.mem_filter.mpr ⟨List.mem_of_getElem? (i := 110) (by decide +kernel), rfl⟩
theorem k_ac_byte : Cond.arrayClass FieldType.byte ∈ tbG := List.mem_filter.mpr ⟨List.mem_of_getElem? (i := 129) (by decide +kernel), rfl⟩
theorem k_ac_int : Cond.arrayClass FieldType.int ∈ tbG := List.mem_filter.mpr ⟨List.mem_of_getElem? (i := 130) (by decide +kernel), rfl⟩
theorem k_ac_boolean : Cond.arrayClass FieldType.boolean ∈ tbG := List.mem_filter.mpr ⟨List.mem_of_getElem? (i := 131) (by decide +kernel), rfl⟩
theorem k_fl_W_29 : Cond.fieldLink R_W 29 "WornFlash" "spread" "I" ∈ tbG := List.mem_filter.mpr ⟨List.mem_of_getElem? (i := 132) (by decide +kernel), rfl⟩
theorem k_fl_W_35 : Cond.fieldLink R_W 35 "WornFlash" "blocks" "[LWornFlash$Block;" ∈ tbG := List.mem_filter.mpr ⟨List.mem_of_getElem? (i := 133) (by decide +kernel), rfl⟩
theorem k_fl_W_42 : Cond.fieldLink R_W 42 "WornFlash" "places" "[B" ∈ tbG := List.mem_filter.mpr ⟨List.mem_of_getElem? (i := 134) (by decide +kernel), rfl⟩
theorem k_fl_W_90 : Cond.fieldLink R_W 90 "WornFlash" "serials" "I" ∈ tbG := List.mem_filter.mpr ⟨List.mem_of_getElem? (i := 135) (by decide +kernel), rfl⟩
theorem k_fl_W_59 : Cond.fieldLink R_W 59 "WornFlash" "operations" "I" ∈ tbG := List.mem_filter.mpr ⟨List.mem_of_getElem? (i := 136) (by decide +kernel), rfl⟩
theorem k_fl_W_56 : Cond.fieldLink R_W 56 "WornFlash" "fuse" "I" ∈ tbG := List.mem_filter.mpr ⟨List.mem_of_getElem? (i := 137) (by decide +kernel), rfl⟩
theorem k_fl_W_62 : Cond.fieldLink R_W 62 "WornFlash" "open" "LWornFlash$Block;" ∈ tbG := List.mem_filter.mpr ⟨List.mem_of_getElem? (i := 138) (by decide +kernel), rfl⟩
theorem k_fl_W_39 : Cond.fieldLink R_W 39 "WornFlash" "heap" "[LWornFlash$Block;" ∈ tbG := List.mem_filter.mpr ⟨List.mem_of_getElem? (i := 139) (by decide +kernel), rfl⟩
theorem k_fl_W_49 : Cond.fieldLink R_W 49 "WornFlash" "heapSize" "I" ∈ tbG := List.mem_filter.mpr ⟨List.mem_of_getElem? (i := 140) (by decide +kernel), rfl⟩
theorem k_fl_W_10 : Cond.fieldLink R_W 10 "WornFlash" "buffer" "[LWornFlash$Entry;" ∈ tbG := List.mem_filter.mpr ⟨List.mem_of_getElem? (i := 141) (by decide +kernel), rfl⟩
theorem k_fl_W_135 : Cond.fieldLink R_W 135 "WornFlash" "entries" "I" ∈ tbG := List.mem_filter.mpr ⟨List.mem_of_getElem? (i := 142) (by decide +kernel), rfl⟩
theorem k_fl_W_19 : Cond.fieldLink R_W 19 "WornFlash" "greedy" "LWornFlash$Policy;" ∈ tbG := List.mem_filter.mpr ⟨List.mem_of_getElem? (i := 143) (by decide +kernel), rfl⟩
theorem k_fl_W_26 : Cond.fieldLink R_W 26 "WornFlash" "levelling" "LWornFlash$Policy;" ∈ tbG := List.mem_filter.mpr ⟨List.mem_of_getElem? (i := 144) (by decide +kernel), rfl⟩
theorem k_ml_L_40 : Cond.methodLink R_law 40 y_W_cut ∈ tbG := List.mem_filter.mpr ⟨List.mem_of_getElem? (i := 172) (by decide +kernel), rfl⟩
theorem k_im_W_cut : Cond.instanceMethod y_W_cut ∈ tbG := List.mem_filter.mpr ⟨List.mem_of_getElem? (i := 173) (by decide +kernel), rfl⟩
theorem k_se_W_cut : Cond.selects R_W y_W_cut y_W_cut ∈ tbG := List.mem_filter.mpr ⟨List.mem_of_getElem? (i := 174) (by decide +kernel), rfl⟩
theorem k_cd_W_cut : Cond.code y_W_cut b_W_cut 1 (Option.none : Option FieldType) ∈ tbG := List.mem_filter.mpr ⟨List.mem_of_getElem? (i := 175) (by decide +kernel), rfl⟩
theorem k_ml_W_147 : Cond.methodLink R_W 147 y_W_lost ∈ tbG := List.mem_filter.mpr ⟨List.mem_of_getElem? (i := 176) (by decide +kernel), rfl⟩
theorem k_im_W_lost : Cond.instanceMethod y_W_lost ∈ tbG := List.mem_filter.mpr ⟨List.mem_of_getElem? (i := 178) (by decide +kernel), rfl⟩
theorem k_cd_W_lost : Cond.code y_W_lost b_W_lost 2 (Option.some FieldType.int) ∈ tbG := List.mem_filter.mpr ⟨List.mem_of_getElem? (i := 179) (by decide +kernel), rfl⟩
theorem k_ml_W_132 : Cond.methodLink R_W 132 y_W_rebuild ∈ tbG := List.mem_filter.mpr ⟨List.mem_of_getElem? (i := 180) (by decide +kernel), rfl⟩
theorem k_im_W_rebuild : Cond.instanceMethod y_W_rebuild ∈ tbG := List.mem_filter.mpr ⟨List.mem_of_getElem? (i := 182) (by decide +kernel), rfl⟩
theorem k_cd_W_rebuild : Cond.code y_W_rebuild b_W_rebuild 7 (Option.none : Option FieldType) ∈ tbG := List.mem_filter.mpr ⟨List.mem_of_getElem? (i := 183) (by decide +kernel), rfl⟩
theorem k_ml_W_103 : Cond.methodLink R_W 103 y_W_push ∈ tbG := List.mem_filter.mpr ⟨List.mem_of_getElem? (i := 184) (by decide +kernel), rfl⟩
theorem k_im_W_push : Cond.instanceMethod y_W_push ∈ tbG := List.mem_filter.mpr ⟨List.mem_of_getElem? (i := 186) (by decide +kernel), rfl⟩
theorem k_cd_W_push : Cond.code y_W_push b_W_push 3 (Option.none : Option FieldType) ∈ tbG := List.mem_filter.mpr ⟨List.mem_of_getElem? (i := 187) (by decide +kernel), rfl⟩
theorem k_ml_W_52 : Cond.methodLink R_W 52 y_B_cmp ∈ tbG := List.mem_filter.mpr ⟨List.mem_of_getElem? (i := 188) (by decide +kernel), rfl⟩
theorem k_im_B_cmp : Cond.instanceMethod y_B_cmp ∈ tbG := List.mem_filter.mpr ⟨List.mem_of_getElem? (i := 189) (by decide +kernel), rfl⟩
theorem k_se_B_cmp : Cond.selects R_B y_B_cmp y_B_cmp ∈ tbG := List.mem_filter.mpr ⟨List.mem_of_getElem? (i := 190) (by decide +kernel), rfl⟩
theorem k_cd_B_cmp : Cond.code y_B_cmp b_B_cmp 2 (Option.some FieldType.int) ∈ tbG := List.mem_filter.mpr ⟨List.mem_of_getElem? (i := 191) (by decide +kernel), rfl⟩
theorem k_ml_B_33 : Cond.methodLink R_B 33 y_J_compare ∈ tbG := List.mem_filter.mpr ⟨List.mem_of_getElem? (i := 192) (by decide +kernel), rfl⟩
theorem k_st_J_compare : Cond.static y_J_compare ∈ tbG := List.mem_filter.mpr ⟨List.mem_of_getElem? (i := 193) (by decide +kernel), rfl⟩
theorem k_cd_J_compare : Cond.code y_J_compare b_J_compare 2 (Option.some FieldType.int) ∈ tbG := List.mem_filter.mpr ⟨List.mem_of_getElem? (i := 194) (by decide +kernel), rfl⟩
theorem k_ml_W_66 : Cond.methodLink R_W 66 y_B_isFull ∈ tbG := List.mem_filter.mpr ⟨List.mem_of_getElem? (i := 195) (by decide +kernel), rfl⟩
theorem k_im_B_isFull : Cond.instanceMethod y_B_isFull ∈ tbG := List.mem_filter.mpr ⟨List.mem_of_getElem? (i := 196) (by decide +kernel), rfl⟩
theorem k_se_B_isFull : Cond.selects R_B y_B_isFull y_B_isFull ∈ tbG := List.mem_filter.mpr ⟨List.mem_of_getElem? (i := 197) (by decide +kernel), rfl⟩
theorem k_cd_B_isFull : Cond.code y_B_isFull b_B_isFull 1 (Option.some FieldType.boolean) ∈ tbG := List.mem_filter.mpr ⟨List.mem_of_getElem? (i := 198) (by decide +kernel), rfl⟩
theorem k_ml_W_138 : Cond.methodLink R_W 138 y_J_max ∈ tbG := List.mem_filter.mpr ⟨List.mem_of_getElem? (i := 199) (by decide +kernel), rfl⟩
theorem k_st_J_max : Cond.static y_J_max ∈ tbG := List.mem_filter.mpr ⟨List.mem_of_getElem? (i := 200) (by decide +kernel), rfl⟩
theorem k_cd_J_max : Cond.code y_J_max b_J_max 2 (Option.some FieldType.int) ∈ tbG := List.mem_filter.mpr ⟨List.mem_of_getElem? (i := 201) (by decide +kernel), rfl⟩
theorem k_ml_W_144 : Cond.methodLink R_W 144 y_W_serialAt ∈ tbG := List.mem_filter.mpr ⟨List.mem_of_getElem? (i := 202) (by decide +kernel), rfl⟩
theorem k_im_W_serialAt : Cond.instanceMethod y_W_serialAt ∈ tbG := List.mem_filter.mpr ⟨List.mem_of_getElem? (i := 204) (by decide +kernel), rfl⟩
theorem k_cd_W_serialAt : Cond.code y_W_serialAt b_W_serialAt 2 (Option.some FieldType.int) ∈ tbG := List.mem_filter.mpr ⟨List.mem_of_getElem? (i := 205) (by decide +kernel), rfl⟩
theorem k_ml_W_96 : Cond.methodLink R_W 96 y_B_place ∈ tbG := List.mem_filter.mpr ⟨List.mem_of_getElem? (i := 206) (by decide +kernel), rfl⟩
theorem k_im_B_place : Cond.instanceMethod y_B_place ∈ tbG := List.mem_filter.mpr ⟨List.mem_of_getElem? (i := 207) (by decide +kernel), rfl⟩
theorem k_se_B_place : Cond.selects R_B y_B_place y_B_place ∈ tbG := List.mem_filter.mpr ⟨List.mem_of_getElem? (i := 208) (by decide +kernel), rfl⟩
theorem k_cd_B_place : Cond.code y_B_place b_B_place 2 (Option.some FieldType.int) ∈ tbG := List.mem_filter.mpr ⟨List.mem_of_getElem? (i := 209) (by decide +kernel), rfl⟩
theorem k_ml_W_128 : Cond.methodLink R_W 128 y_W_collect ∈ tbG := List.mem_filter.mpr ⟨List.mem_of_getElem? (i := 210) (by decide +kernel), rfl⟩
theorem k_im_W_collect : Cond.instanceMethod y_W_collect ∈ tbG := List.mem_filter.mpr ⟨List.mem_of_getElem? (i := 212) (by decide +kernel), rfl⟩
theorem k_cd_W_collect : Cond.code y_W_collect b_W_collect 7 (Option.some FieldType.boolean) ∈ tbG := List.mem_filter.mpr ⟨List.mem_of_getElem? (i := 213) (by decide +kernel), rfl⟩
theorem k_ml_W_107 : Cond.methodLink R_W 107 y_P_prefers ∈ tbG := List.mem_filter.mpr ⟨List.mem_of_getElem? (i := 215) (by decide +kernel), rfl⟩
theorem k_se_G_prefers : Cond.selects R_G y_P_prefers y_G_prefers ∈ tbG := List.mem_filter.mpr ⟨List.mem_of_getElem? (i := 219) (by decide +kernel), rfl⟩
theorem k_im_G_prefers : Cond.instanceMethod y_G_prefers ∈ tbG := List.mem_filter.mpr ⟨List.mem_of_getElem? (i := 221) (by decide +kernel), rfl⟩
theorem k_cd_G_prefers : Cond.code y_G_prefers b_G_prefers 3 (Option.some FieldType.boolean) ∈ tbG := List.mem_filter.mpr ⟨List.mem_of_getElem? (i := 223) (by decide +kernel), rfl⟩
theorem k_ml_G_13 : Cond.methodLink R_G 13 y_B_cmp ∈ tbG := List.mem_filter.mpr ⟨List.mem_of_getElem? (i := 224) (by decide +kernel), rfl⟩
theorem k_se_V_prefers : Cond.selects R_V y_P_prefers y_V_prefers ∈ tbG := List.mem_filter.mpr ⟨List.mem_of_getElem? (i := 226) (by decide +kernel), rfl⟩
theorem k_im_V_prefers : Cond.instanceMethod y_V_prefers ∈ tbG := List.mem_filter.mpr ⟨List.mem_of_getElem? (i := 228) (by decide +kernel), rfl⟩
theorem k_cd_V_prefers : Cond.code y_V_prefers b_V_prefers 3 (Option.some FieldType.boolean) ∈ tbG := List.mem_filter.mpr ⟨List.mem_of_getElem? (i := 230) (by decide +kernel), rfl⟩
theorem k_ml_V_7 : Cond.methodLink R_V 7 y_B_cmp ∈ tbG := List.mem_filter.mpr ⟨List.mem_of_getElem? (i := 231) (by decide +kernel), rfl⟩
theorem k_ml_W_113 : Cond.methodLink R_W 113 y_W_program ∈ tbG := List.mem_filter.mpr ⟨List.mem_of_getElem? (i := 232) (by decide +kernel), rfl⟩
theorem k_im_W_program : Cond.instanceMethod y_W_program ∈ tbG := List.mem_filter.mpr ⟨List.mem_of_getElem? (i := 234) (by decide +kernel), rfl⟩
theorem k_cd_W_program : Cond.code y_W_program b_W_program 5 (Option.some FieldType.boolean) ∈ tbG := List.mem_filter.mpr ⟨List.mem_of_getElem? (i := 235) (by decide +kernel), rfl⟩
theorem k_ml_W_70 : Cond.methodLink R_W 70 y_W_operate ∈ tbG := List.mem_filter.mpr ⟨List.mem_of_getElem? (i := 236) (by decide +kernel), rfl⟩
theorem k_im_W_operate : Cond.instanceMethod y_W_operate ∈ tbG := List.mem_filter.mpr ⟨List.mem_of_getElem? (i := 238) (by decide +kernel), rfl⟩
theorem k_cd_W_operate : Cond.code y_W_operate b_W_operate 1 (Option.some FieldType.boolean) ∈ tbG := List.mem_filter.mpr ⟨List.mem_of_getElem? (i := 239) (by decide +kernel), rfl⟩
theorem k_ml_W_117 : Cond.methodLink R_W 117 y_W_erase ∈ tbG := List.mem_filter.mpr ⟨List.mem_of_getElem? (i := 240) (by decide +kernel), rfl⟩
theorem k_im_W_erase : Cond.instanceMethod y_W_erase ∈ tbG := List.mem_filter.mpr ⟨List.mem_of_getElem? (i := 242) (by decide +kernel), rfl⟩
theorem k_cd_W_erase : Cond.code y_W_erase b_W_erase 2 (Option.some FieldType.boolean) ∈ tbG := List.mem_filter.mpr ⟨List.mem_of_getElem? (i := 243) (by decide +kernel), rfl⟩
theorem k_ml_L_44 : Cond.methodLink R_law 44 y_W_fuse ∈ tbG := List.mem_filter.mpr ⟨List.mem_of_getElem? (i := 244) (by decide +kernel), rfl⟩
theorem k_im_W_fuse : Cond.instanceMethod y_W_fuse ∈ tbG := List.mem_filter.mpr ⟨List.mem_of_getElem? (i := 245) (by decide +kernel), rfl⟩
theorem k_se_W_fuse : Cond.selects R_W y_W_fuse y_W_fuse ∈ tbG := List.mem_filter.mpr ⟨List.mem_of_getElem? (i := 246) (by decide +kernel), rfl⟩
theorem k_cd_W_fuse : Cond.code y_W_fuse b_W_fuse 2 (Option.some FieldType.boolean) ∈ tbG := List.mem_filter.mpr ⟨List.mem_of_getElem? (i := 247) (by decide +kernel), rfl⟩
theorem k_ml_L_26 : Cond.methodLink R_law 26 y_W_write ∈ tbG := List.mem_filter.mpr ⟨List.mem_of_getElem? (i := 248) (by decide +kernel), rfl⟩
theorem k_im_W_write : Cond.instanceMethod y_W_write ∈ tbG := List.mem_filter.mpr ⟨List.mem_of_getElem? (i := 249) (by decide +kernel), rfl⟩
theorem k_se_W_write : Cond.selects R_W y_W_write y_W_write ∈ tbG := List.mem_filter.mpr ⟨List.mem_of_getElem? (i := 250) (by decide +kernel), rfl⟩
theorem k_cd_W_write : Cond.code y_W_write b_W_write 3 (Option.some FieldType.int) ∈ tbG := List.mem_filter.mpr ⟨List.mem_of_getElem? (i := 251) (by decide +kernel), rfl⟩
theorem k_ml_W_176 : Cond.methodLink R_W 176 y_W_put ∈ tbG := List.mem_filter.mpr ⟨List.mem_of_getElem? (i := 252) (by decide +kernel), rfl⟩
theorem k_im_W_put : Cond.instanceMethod y_W_put ∈ tbG := List.mem_filter.mpr ⟨List.mem_of_getElem? (i := 254) (by decide +kernel), rfl⟩
theorem k_cd_W_put : Cond.code y_W_put b_W_put 5 (Option.some FieldType.int) ∈ tbG := List.mem_filter.mpr ⟨List.mem_of_getElem? (i := 255) (by decide +kernel), rfl⟩
theorem k_ml_W_161 : Cond.methodLink R_W 161 y_W_isSector ∈ tbG := List.mem_filter.mpr ⟨List.mem_of_getElem? (i := 256) (by decide +kernel), rfl⟩
theorem k_im_W_isSector : Cond.instanceMethod y_W_isSector ∈ tbG := List.mem_filter.mpr ⟨List.mem_of_getElem? (i := 258) (by decide +kernel), rfl⟩
theorem k_cd_W_isSector : Cond.code y_W_isSector b_W_isSector 2 (Option.some FieldType.boolean) ∈ tbG := List.mem_filter.mpr ⟨List.mem_of_getElem? (i := 259) (by decide +kernel), rfl⟩
theorem k_ml_W_165 : Cond.methodLink R_W 165 y_W_entry ∈ tbG := List.mem_filter.mpr ⟨List.mem_of_getElem? (i := 260) (by decide +kernel), rfl⟩
theorem k_im_W_entry : Cond.instanceMethod y_W_entry ∈ tbG := List.mem_filter.mpr ⟨List.mem_of_getElem? (i := 262) (by decide +kernel), rfl⟩
theorem k_cd_W_entry : Cond.code y_W_entry b_W_entry 3 (Option.some (FieldType.object "WornFlash$Entry")) ∈ tbG := List.mem_filter.mpr ⟨List.mem_of_getElem? (i := 263) (by decide +kernel), rfl⟩
theorem k_ml_W_169 : Cond.methodLink R_W 169 y_W_store ∈ tbG := List.mem_filter.mpr ⟨List.mem_of_getElem? (i := 264) (by decide +kernel), rfl⟩
theorem k_im_W_store : Cond.instanceMethod y_W_store ∈ tbG := List.mem_filter.mpr ⟨List.mem_of_getElem? (i := 266) (by decide +kernel), rfl⟩
theorem k_cd_W_store : Cond.code y_W_store b_W_store 3 (Option.some FieldType.boolean) ∈ tbG := List.mem_filter.mpr ⟨List.mem_of_getElem? (i := 267) (by decide +kernel), rfl⟩
theorem k_ml_W_151 : Cond.methodLink R_W 151 y_W_provide ∈ tbG := List.mem_filter.mpr ⟨List.mem_of_getElem? (i := 268) (by decide +kernel), rfl⟩
theorem k_im_W_provide : Cond.instanceMethod y_W_provide ∈ tbG := List.mem_filter.mpr ⟨List.mem_of_getElem? (i := 270) (by decide +kernel), rfl⟩
theorem k_cd_W_provide : Cond.code y_W_provide b_W_provide 4 (Option.some FieldType.boolean) ∈ tbG := List.mem_filter.mpr ⟨List.mem_of_getElem? (i := 271) (by decide +kernel), rfl⟩
theorem k_ml_W_121 : Cond.methodLink R_W 121 y_W_pop ∈ tbG := List.mem_filter.mpr ⟨List.mem_of_getElem? (i := 272) (by decide +kernel), rfl⟩
theorem k_im_W_pop : Cond.instanceMethod y_W_pop ∈ tbG := List.mem_filter.mpr ⟨List.mem_of_getElem? (i := 274) (by decide +kernel), rfl⟩
theorem k_cd_W_pop : Cond.code y_W_pop b_W_pop 5 (Option.some (FieldType.object "WornFlash$Block")) ∈ tbG := List.mem_filter.mpr ⟨List.mem_of_getElem? (i := 275) (by decide +kernel), rfl⟩
theorem k_ml_W_125 : Cond.methodLink R_W 125 y_W_isWorn ∈ tbG := List.mem_filter.mpr ⟨List.mem_of_getElem? (i := 276) (by decide +kernel), rfl⟩
theorem k_im_W_isWorn : Cond.instanceMethod y_W_isWorn ∈ tbG := List.mem_filter.mpr ⟨List.mem_of_getElem? (i := 278) (by decide +kernel), rfl⟩
theorem k_cd_W_isWorn : Cond.code y_W_isWorn b_W_isWorn 7 (Option.some FieldType.boolean) ∈ tbG := List.mem_filter.mpr ⟨List.mem_of_getElem? (i := 279) (by decide +kernel), rfl⟩
theorem k_ml_W_172 : Cond.methodLink R_W 172 y_E_set ∈ tbG := List.mem_filter.mpr ⟨List.mem_of_getElem? (i := 280) (by decide +kernel), rfl⟩
theorem k_im_E_set : Cond.instanceMethod y_E_set ∈ tbG := List.mem_filter.mpr ⟨List.mem_of_getElem? (i := 281) (by decide +kernel), rfl⟩
theorem k_se_E_set : Cond.selects R_E y_E_set y_E_set ∈ tbG := List.mem_filter.mpr ⟨List.mem_of_getElem? (i := 282) (by decide +kernel), rfl⟩
theorem k_cd_E_set : Cond.code y_E_set b_E_set 4 (Option.none : Option FieldType) ∈ tbG := List.mem_filter.mpr ⟨List.mem_of_getElem? (i := 283) (by decide +kernel), rfl⟩
theorem k_ml_L_31 : Cond.methodLink R_law 31 y_W_trim ∈ tbG := List.mem_filter.mpr ⟨List.mem_of_getElem? (i := 284) (by decide +kernel), rfl⟩
theorem k_im_W_trim : Cond.instanceMethod y_W_trim ∈ tbG := List.mem_filter.mpr ⟨List.mem_of_getElem? (i := 285) (by decide +kernel), rfl⟩
theorem k_se_W_trim : Cond.selects R_W y_W_trim y_W_trim ∈ tbG := List.mem_filter.mpr ⟨List.mem_of_getElem? (i := 286) (by decide +kernel), rfl⟩
theorem k_cd_W_trim : Cond.code y_W_trim b_W_trim 2 (Option.some FieldType.int) ∈ tbG := List.mem_filter.mpr ⟨List.mem_of_getElem? (i := 287) (by decide +kernel), rfl⟩
theorem k_ml_L_36 : Cond.methodLink R_law 36 y_W_flush ∈ tbG := List.mem_filter.mpr ⟨List.mem_of_getElem? (i := 288) (by decide +kernel), rfl⟩
theorem k_im_W_flush : Cond.instanceMethod y_W_flush ∈ tbG := List.mem_filter.mpr ⟨List.mem_of_getElem? (i := 289) (by decide +kernel), rfl⟩
theorem k_se_W_flush : Cond.selects R_W y_W_flush y_W_flush ∈ tbG := List.mem_filter.mpr ⟨List.mem_of_getElem? (i := 290) (by decide +kernel), rfl⟩
theorem k_cd_W_flush : Cond.code y_W_flush b_W_flush 1 (Option.some FieldType.int) ∈ tbG := List.mem_filter.mpr ⟨List.mem_of_getElem? (i := 291) (by decide +kernel), rfl⟩
theorem k_ml_L_21 : Cond.methodLink R_law 21 y_W_sectors ∈ tbG := List.mem_filter.mpr ⟨List.mem_of_getElem? (i := 292) (by decide +kernel), rfl⟩
theorem k_im_W_sectors : Cond.instanceMethod y_W_sectors ∈ tbG := List.mem_filter.mpr ⟨List.mem_of_getElem? (i := 293) (by decide +kernel), rfl⟩
theorem k_se_W_sectors : Cond.selects R_W y_W_sectors y_W_sectors ∈ tbG := List.mem_filter.mpr ⟨List.mem_of_getElem? (i := 294) (by decide +kernel), rfl⟩
theorem k_cd_W_sectors : Cond.code y_W_sectors b_W_sectors 1 (Option.some FieldType.int) ∈ tbG := List.mem_filter.mpr ⟨List.mem_of_getElem? (i := 295) (by decide +kernel), rfl⟩
theorem k_ml_L_49 : Cond.methodLink R_law 49 y_W_read ∈ tbG := List.mem_filter.mpr ⟨List.mem_of_getElem? (i := 296) (by decide +kernel), rfl⟩
theorem k_im_W_read : Cond.instanceMethod y_W_read ∈ tbG := List.mem_filter.mpr ⟨List.mem_of_getElem? (i := 297) (by decide +kernel), rfl⟩
theorem k_se_W_read : Cond.selects R_W y_W_read y_W_read ∈ tbG := List.mem_filter.mpr ⟨List.mem_of_getElem? (i := 298) (by decide +kernel), rfl⟩
theorem k_cd_W_read : Cond.code y_W_read b_W_read 4 (Option.some FieldType.int) ∈ tbG := List.mem_filter.mpr ⟨List.mem_of_getElem? (i := 299) (by decide +kernel), rfl⟩
theorem k_ml_L_53 : Cond.methodLink R_law 53 y_W_holds ∈ tbG := List.mem_filter.mpr ⟨List.mem_of_getElem? (i := 300) (by decide +kernel), rfl⟩
theorem k_im_W_holds : Cond.instanceMethod y_W_holds ∈ tbG := List.mem_filter.mpr ⟨List.mem_of_getElem? (i := 301) (by decide +kernel), rfl⟩
theorem k_se_W_holds : Cond.selects R_W y_W_holds y_W_holds ∈ tbG := List.mem_filter.mpr ⟨List.mem_of_getElem? (i := 302) (by decide +kernel), rfl⟩
theorem k_cd_W_holds : Cond.code y_W_holds b_W_holds 4 (Option.some FieldType.int) ∈ tbG := List.mem_filter.mpr ⟨List.mem_of_getElem? (i := 303) (by decide +kernel), rfl⟩
theorem k_ml_L_57 : Cond.methodLink R_law 57 y_W_buffered ∈ tbG := List.mem_filter.mpr ⟨List.mem_of_getElem? (i := 304) (by decide +kernel), rfl⟩
theorem k_im_W_buffered : Cond.instanceMethod y_W_buffered ∈ tbG := List.mem_filter.mpr ⟨List.mem_of_getElem? (i := 305) (by decide +kernel), rfl⟩
theorem k_se_W_buffered : Cond.selects R_W y_W_buffered y_W_buffered ∈ tbG := List.mem_filter.mpr ⟨List.mem_of_getElem? (i := 306) (by decide +kernel), rfl⟩
theorem k_cd_W_buffered : Cond.code y_W_buffered b_W_buffered 1 (Option.some FieldType.int) ∈ tbG := List.mem_filter.mpr ⟨List.mem_of_getElem? (i := 307) (by decide +kernel), rfl⟩
theorem k_ml_L_61 : Cond.methodLink R_law 61 y_W_place ∈ tbG := List.mem_filter.mpr ⟨List.mem_of_getElem? (i := 308) (by decide +kernel), rfl⟩
theorem k_im_W_place : Cond.instanceMethod y_W_place ∈ tbG := List.mem_filter.mpr ⟨List.mem_of_getElem? (i := 309) (by decide +kernel), rfl⟩
theorem k_se_W_place : Cond.selects R_W y_W_place y_W_place ∈ tbG := List.mem_filter.mpr ⟨List.mem_of_getElem? (i := 310) (by decide +kernel), rfl⟩
theorem k_cd_W_place : Cond.code y_W_place b_W_place 2 (Option.some FieldType.int) ∈ tbG := List.mem_filter.mpr ⟨List.mem_of_getElem? (i := 311) (by decide +kernel), rfl⟩
theorem k_ml_L_65 : Cond.methodLink R_law 65 y_W_tag ∈ tbG := List.mem_filter.mpr ⟨List.mem_of_getElem? (i := 312) (by decide +kernel), rfl⟩
theorem k_im_W_tag : Cond.instanceMethod y_W_tag ∈ tbG := List.mem_filter.mpr ⟨List.mem_of_getElem? (i := 313) (by decide +kernel), rfl⟩
theorem k_se_W_tag : Cond.selects R_W y_W_tag y_W_tag ∈ tbG := List.mem_filter.mpr ⟨List.mem_of_getElem? (i := 314) (by decide +kernel), rfl⟩
theorem k_cd_W_tag : Cond.code y_W_tag b_W_tag 3 (Option.some FieldType.int) ∈ tbG := List.mem_filter.mpr ⟨List.mem_of_getElem? (i := 315) (by decide +kernel), rfl⟩
theorem k_ml_W_180 : Cond.methodLink R_W 180 y_W_programmed ∈ tbG := List.mem_filter.mpr ⟨List.mem_of_getElem? (i := 316) (by decide +kernel), rfl⟩
theorem k_im_W_programmed : Cond.instanceMethod y_W_programmed ∈ tbG := List.mem_filter.mpr ⟨List.mem_of_getElem? (i := 318) (by decide +kernel), rfl⟩
theorem k_cd_W_programmed : Cond.code y_W_programmed b_W_programmed 3 (Option.some (FieldType.object "WornFlash$Block")) ∈ tbG := List.mem_filter.mpr ⟨List.mem_of_getElem? (i := 319) (by decide +kernel), rfl⟩
theorem k_ml_L_69 : Cond.methodLink R_law 69 y_W_serial ∈ tbG := List.mem_filter.mpr ⟨List.mem_of_getElem? (i := 320) (by decide +kernel), rfl⟩
theorem k_im_W_serial : Cond.instanceMethod y_W_serial ∈ tbG := List.mem_filter.mpr ⟨List.mem_of_getElem? (i := 321) (by decide +kernel), rfl⟩
theorem k_se_W_serial : Cond.selects R_W y_W_serial y_W_serial ∈ tbG := List.mem_filter.mpr ⟨List.mem_of_getElem? (i := 322) (by decide +kernel), rfl⟩
theorem k_cd_W_serial : Cond.code y_W_serial b_W_serial 3 (Option.some FieldType.int) ∈ tbG := List.mem_filter.mpr ⟨List.mem_of_getElem? (i := 323) (by decide +kernel), rfl⟩
theorem k_ml_L_73 : Cond.methodLink R_law 73 y_W_valid ∈ tbG := List.mem_filter.mpr ⟨List.mem_of_getElem? (i := 324) (by decide +kernel), rfl⟩
theorem k_im_W_valid : Cond.instanceMethod y_W_valid ∈ tbG := List.mem_filter.mpr ⟨List.mem_of_getElem? (i := 325) (by decide +kernel), rfl⟩
theorem k_se_W_valid : Cond.selects R_W y_W_valid y_W_valid ∈ tbG := List.mem_filter.mpr ⟨List.mem_of_getElem? (i := 326) (by decide +kernel), rfl⟩
theorem k_cd_W_valid : Cond.code y_W_valid b_W_valid 2 (Option.some FieldType.int) ∈ tbG := List.mem_filter.mpr ⟨List.mem_of_getElem? (i := 327) (by decide +kernel), rfl⟩
theorem k_ml_W_184 : Cond.methodLink R_W 184 y_W_isBlock ∈ tbG := List.mem_filter.mpr ⟨List.mem_of_getElem? (i := 328) (by decide +kernel), rfl⟩
theorem k_im_W_isBlock : Cond.instanceMethod y_W_isBlock ∈ tbG := List.mem_filter.mpr ⟨List.mem_of_getElem? (i := 330) (by decide +kernel), rfl⟩
theorem k_cd_W_isBlock : Cond.code y_W_isBlock b_W_isBlock 2 (Option.some FieldType.boolean) ∈ tbG := List.mem_filter.mpr ⟨List.mem_of_getElem? (i := 331) (by decide +kernel), rfl⟩
theorem k_ml_L_77 : Cond.methodLink R_law 77 y_W_erasures ∈ tbG := List.mem_filter.mpr ⟨List.mem_of_getElem? (i := 332) (by decide +kernel), rfl⟩
theorem k_im_W_erasures : Cond.instanceMethod y_W_erasures ∈ tbG := List.mem_filter.mpr ⟨List.mem_of_getElem? (i := 333) (by decide +kernel), rfl⟩
theorem k_se_W_erasures : Cond.selects R_W y_W_erasures y_W_erasures ∈ tbG := List.mem_filter.mpr ⟨List.mem_of_getElem? (i := 334) (by decide +kernel), rfl⟩
theorem k_cd_W_erasures : Cond.code y_W_erasures b_W_erasures 2 (Option.some FieldType.int) ∈ tbG := List.mem_filter.mpr ⟨List.mem_of_getElem? (i := 335) (by decide +kernel), rfl⟩
theorem k_ml_L_81 : Cond.methodLink R_law 81 y_W_open ∈ tbG := List.mem_filter.mpr ⟨List.mem_of_getElem? (i := 336) (by decide +kernel), rfl⟩
theorem k_im_W_open : Cond.instanceMethod y_W_open ∈ tbG := List.mem_filter.mpr ⟨List.mem_of_getElem? (i := 337) (by decide +kernel), rfl⟩
theorem k_se_W_open : Cond.selects R_W y_W_open y_W_open ∈ tbG := List.mem_filter.mpr ⟨List.mem_of_getElem? (i := 338) (by decide +kernel), rfl⟩
theorem k_cd_W_open : Cond.code y_W_open b_W_open 1 (Option.some FieldType.int) ∈ tbG := List.mem_filter.mpr ⟨List.mem_of_getElem? (i := 339) (by decide +kernel), rfl⟩
theorem k_ml_L_85 : Cond.methodLink R_law 85 y_W_free ∈ tbG := List.mem_filter.mpr ⟨List.mem_of_getElem? (i := 340) (by decide +kernel), rfl⟩
theorem k_im_W_free : Cond.instanceMethod y_W_free ∈ tbG := List.mem_filter.mpr ⟨List.mem_of_getElem? (i := 341) (by decide +kernel), rfl⟩
theorem k_se_W_free : Cond.selects R_W y_W_free y_W_free ∈ tbG := List.mem_filter.mpr ⟨List.mem_of_getElem? (i := 342) (by decide +kernel), rfl⟩
theorem k_cd_W_free : Cond.code y_W_free b_W_free 1 (Option.some FieldType.int) ∈ tbG := List.mem_filter.mpr ⟨List.mem_of_getElem? (i := 343) (by decide +kernel), rfl⟩
theorem k_ml_L_89 : Cond.methodLink R_law 89 y_W_operations ∈ tbG := List.mem_filter.mpr ⟨List.mem_of_getElem? (i := 344) (by decide +kernel), rfl⟩
theorem k_im_W_operations : Cond.instanceMethod y_W_operations ∈ tbG := List.mem_filter.mpr ⟨List.mem_of_getElem? (i := 345) (by decide +kernel), rfl⟩
theorem k_se_W_operations : Cond.selects R_W y_W_operations y_W_operations ∈ tbG := List.mem_filter.mpr ⟨List.mem_of_getElem? (i := 346) (by decide +kernel), rfl⟩
theorem k_cd_W_operations : Cond.code y_W_operations b_W_operations 1 (Option.some FieldType.int) ∈ tbG := List.mem_filter.mpr ⟨List.mem_of_getElem? (i := 347) (by decide +kernel), rfl⟩
theorem k_ml_L_9 : Cond.methodLink R_law 9 y_L_cell ∈ tbG := List.mem_filter.mpr ⟨List.mem_of_getElem? (i := 348) (by decide +kernel), rfl⟩
theorem k_st_L_cell : Cond.static y_L_cell ∈ tbG := List.mem_filter.mpr ⟨List.mem_of_getElem? (i := 349) (by decide +kernel), rfl⟩
theorem k_cd_L_cell : Cond.code y_L_cell b_L_cell 2 (Option.some FieldType.int) ∈ tbG := List.mem_filter.mpr ⟨List.mem_of_getElem? (i := 350) (by decide +kernel), rfl⟩
theorem k_cl_L_18 : Cond.classLink R_law 18 R_M ∈ tbG := List.mem_filter.mpr ⟨List.mem_of_getElem? (i := 351) (by decide +kernel), rfl⟩
theorem k_ins_M : Cond.instantiable R_M 16 ∈ tbG := List.mem_filter.mpr ⟨List.mem_of_getElem? (i := 352) (by decide +kernel), rfl⟩
theorem k_ml_L_20 : Cond.methodLink R_law 20 y_M_init ∈ tbG := List.mem_filter.mpr ⟨List.mem_of_getElem? (i := 353) (by decide +kernel), rfl⟩
theorem k_im_M_init : Cond.instanceMethod y_M_init ∈ tbG := List.mem_filter.mpr ⟨List.mem_of_getElem? (i := 354) (by decide +kernel), rfl⟩
theorem k_cd_M_init : Cond.code y_M_init b_M_init 4 (Option.none : Option FieldType) ∈ tbG := List.mem_filter.mpr ⟨List.mem_of_getElem? (i := 355) (by decide +kernel), rfl⟩
theorem k_ml_M_1 : Cond.methodLink R_M 1 objectInit ∈ tbG := List.mem_filter.mpr ⟨List.mem_of_getElem? (i := 356) (by decide +kernel), rfl⟩
theorem k_fl_M_38 : Cond.fieldLink R_M 38 "WornFlashModel" "blocks" "I" ∈ tbG := List.mem_filter.mpr ⟨List.mem_of_getElem? (i := 357) (by decide +kernel), rfl⟩
theorem k_fl_M_41 : Cond.fieldLink R_M 41 "WornFlashModel" "spread" "I" ∈ tbG := List.mem_filter.mpr ⟨List.mem_of_getElem? (i := 358) (by decide +kernel), rfl⟩
theorem k_fl_M_7 : Cond.fieldLink R_M 7 "WornFlashModel" "sectorOf" "[I" ∈ tbG := List.mem_filter.mpr ⟨List.mem_of_getElem? (i := 359) (by decide +kernel), rfl⟩
theorem k_fl_M_13 : Cond.fieldLink R_M 13 "WornFlashModel" "valueOf" "[I" ∈ tbG := List.mem_filter.mpr ⟨List.mem_of_getElem? (i := 360) (by decide +kernel), rfl⟩
theorem k_fl_M_16 : Cond.fieldLink R_M 16 "WornFlashModel" "serialOf" "[I" ∈ tbG := List.mem_filter.mpr ⟨List.mem_of_getElem? (i := 361) (by decide +kernel), rfl⟩
theorem k_fl_M_19 : Cond.fieldLink R_M 19 "WornFlashModel" "sortOf" "[I" ∈ tbG := List.mem_filter.mpr ⟨List.mem_of_getElem? (i := 362) (by decide +kernel), rfl⟩
theorem k_fl_M_22 : Cond.fieldLink R_M 22 "WornFlashModel" "erased" "[I" ∈ tbG := List.mem_filter.mpr ⟨List.mem_of_getElem? (i := 363) (by decide +kernel), rfl⟩
theorem k_fl_M_77 : Cond.fieldLink R_M 77 "WornFlashModel" "nextSerial" "I" ∈ tbG := List.mem_filter.mpr ⟨List.mem_of_getElem? (i := 364) (by decide +kernel), rfl⟩
theorem k_fl_M_25 : Cond.fieldLink R_M 25 "WornFlashModel" "open" "I" ∈ tbG := List.mem_filter.mpr ⟨List.mem_of_getElem? (i := 365) (by decide +kernel), rfl⟩
theorem k_fl_M_70 : Cond.fieldLink R_M 70 "WornFlashModel" "operations" "I" ∈ tbG := List.mem_filter.mpr ⟨List.mem_of_getElem? (i := 366) (by decide +kernel), rfl⟩
theorem k_fl_M_63 : Cond.fieldLink R_M 63 "WornFlashModel" "fuse" "I" ∈ tbG := List.mem_filter.mpr ⟨List.mem_of_getElem? (i := 367) (by decide +kernel), rfl⟩
theorem k_fl_M_66 : Cond.fieldLink R_M 66 "WornFlashModel" "gone" "Z" ∈ tbG := List.mem_filter.mpr ⟨List.mem_of_getElem? (i := 368) (by decide +kernel), rfl⟩
theorem k_fl_M_100 : Cond.fieldLink R_M 100 "WornFlashModel" "entries" "I" ∈ tbG := List.mem_filter.mpr ⟨List.mem_of_getElem? (i := 369) (by decide +kernel), rfl⟩
theorem k_fl_M_29 : Cond.fieldLink R_M 29 "WornFlashModel" "entrySector" "[I" ∈ tbG := List.mem_filter.mpr ⟨List.mem_of_getElem? (i := 370) (by decide +kernel), rfl⟩
theorem k_fl_M_32 : Cond.fieldLink R_M 32 "WornFlashModel" "entryValue" "[I" ∈ tbG := List.mem_filter.mpr ⟨List.mem_of_getElem? (i := 371) (by decide +kernel), rfl⟩
theorem k_fl_M_35 : Cond.fieldLink R_M 35 "WornFlashModel" "entrySort" "[I" ∈ tbG := List.mem_filter.mpr ⟨List.mem_of_getElem? (i := 372) (by decide +kernel), rfl⟩
theorem k_ml_L_25 : Cond.methodLink R_law 25 y_M_sectors ∈ tbG := List.mem_filter.mpr ⟨List.mem_of_getElem? (i := 406) (by decide +kernel), rfl⟩
theorem k_im_M_sectors : Cond.instanceMethod y_M_sectors ∈ tbG := List.mem_filter.mpr ⟨List.mem_of_getElem? (i := 407) (by decide +kernel), rfl⟩
theorem k_se_M_sectors : Cond.selects R_M y_M_sectors y_M_sectors ∈ tbG := List.mem_filter.mpr ⟨List.mem_of_getElem? (i := 408) (by decide +kernel), rfl⟩
theorem k_cd_M_sectors : Cond.code y_M_sectors b_M_sectors 1 (Option.some FieldType.int) ∈ tbG := List.mem_filter.mpr ⟨List.mem_of_getElem? (i := 409) (by decide +kernel), rfl⟩
theorem k_ml_L_43 : Cond.methodLink R_law 43 y_M_cut ∈ tbG := List.mem_filter.mpr ⟨List.mem_of_getElem? (i := 410) (by decide +kernel), rfl⟩
theorem k_im_M_cut : Cond.instanceMethod y_M_cut ∈ tbG := List.mem_filter.mpr ⟨List.mem_of_getElem? (i := 411) (by decide +kernel), rfl⟩
theorem k_se_M_cut : Cond.selects R_M y_M_cut y_M_cut ∈ tbG := List.mem_filter.mpr ⟨List.mem_of_getElem? (i := 412) (by decide +kernel), rfl⟩
theorem k_cd_M_cut : Cond.code y_M_cut b_M_cut 3 (Option.none : Option FieldType) ∈ tbG := List.mem_filter.mpr ⟨List.mem_of_getElem? (i := 413) (by decide +kernel), rfl⟩
theorem k_ml_M_56 : Cond.methodLink R_M 56 y_M_programmed ∈ tbG := List.mem_filter.mpr ⟨List.mem_of_getElem? (i := 414) (by decide +kernel), rfl⟩
theorem k_im_M_programmed : Cond.instanceMethod y_M_programmed ∈ tbG := List.mem_filter.mpr ⟨List.mem_of_getElem? (i := 416) (by decide +kernel), rfl⟩
theorem k_cd_M_programmed : Cond.code y_M_programmed b_M_programmed 4 (Option.some FieldType.int) ∈ tbG := List.mem_filter.mpr ⟨List.mem_of_getElem? (i := 417) (by decide +kernel), rfl⟩
theorem k_ml_M_84 : Cond.methodLink R_M 84 y_M_freeBlocks ∈ tbG := List.mem_filter.mpr ⟨List.mem_of_getElem? (i := 418) (by decide +kernel), rfl⟩
theorem k_im_M_freeBlocks : Cond.instanceMethod y_M_freeBlocks ∈ tbG := List.mem_filter.mpr ⟨List.mem_of_getElem? (i := 420) (by decide +kernel), rfl⟩
theorem k_cd_M_freeBlocks : Cond.code y_M_freeBlocks b_M_freeBlocks 3 (Option.some FieldType.int) ∈ tbG := List.mem_filter.mpr ⟨List.mem_of_getElem? (i := 421) (by decide +kernel), rfl⟩
theorem k_ml_M_87 : Cond.methodLink R_M 87 y_M_pick ∈ tbG := List.mem_filter.mpr ⟨List.mem_of_getElem? (i := 422) (by decide +kernel), rfl⟩
theorem k_im_M_pick : Cond.instanceMethod y_M_pick ∈ tbG := List.mem_filter.mpr ⟨List.mem_of_getElem? (i := 424) (by decide +kernel), rfl⟩
theorem k_cd_M_pick : Cond.code y_M_pick b_M_pick 7 (Option.some FieldType.int) ∈ tbG := List.mem_filter.mpr ⟨List.mem_of_getElem? (i := 425) (by decide +kernel), rfl⟩
theorem k_co_M_59 : Cond.constant R_M 59 (100000 : Int32) ∈ tbG := List.mem_filter.mpr ⟨List.mem_of_getElem? (i := 426) (by decide +kernel), rfl⟩
theorem k_ml_M_60 : Cond.methodLink R_M 60 y_M_validIn ∈ tbG := List.mem_filter.mpr ⟨List.mem_of_getElem? (i := 427) (by decide +kernel), rfl⟩
theorem k_im_M_validIn : Cond.instanceMethod y_M_validIn ∈ tbG := List.mem_filter.mpr ⟨List.mem_of_getElem? (i := 429) (by decide +kernel), rfl⟩
theorem k_cd_M_validIn : Cond.code y_M_validIn b_M_validIn 4 (Option.some FieldType.int) ∈ tbG := List.mem_filter.mpr ⟨List.mem_of_getElem? (i := 430) (by decide +kernel), rfl⟩
theorem k_ml_M_52 : Cond.methodLink R_M 52 y_M_isValid ∈ tbG := List.mem_filter.mpr ⟨List.mem_of_getElem? (i := 431) (by decide +kernel), rfl⟩
theorem k_im_M_isValid : Cond.instanceMethod y_M_isValid ∈ tbG := List.mem_filter.mpr ⟨List.mem_of_getElem? (i := 433) (by decide +kernel), rfl⟩
theorem k_cd_M_isValid : Cond.code y_M_isValid b_M_isValid 2 (Option.some FieldType.boolean) ∈ tbG := List.mem_filter.mpr ⟨List.mem_of_getElem? (i := 434) (by decide +kernel), rfl⟩
theorem k_ml_M_48 : Cond.methodLink R_M 48 y_M_newest ∈ tbG := List.mem_filter.mpr ⟨List.mem_of_getElem? (i := 435) (by decide +kernel), rfl⟩
theorem k_im_M_newest : Cond.instanceMethod y_M_newest ∈ tbG := List.mem_filter.mpr ⟨List.mem_of_getElem? (i := 437) (by decide +kernel), rfl⟩
theorem k_cd_M_newest : Cond.code y_M_newest b_M_newest 4 (Option.some FieldType.int) ∈ tbG := List.mem_filter.mpr ⟨List.mem_of_getElem? (i := 438) (by decide +kernel), rfl⟩
theorem k_ml_M_94 : Cond.methodLink R_M 94 y_M_collect ∈ tbG := List.mem_filter.mpr ⟨List.mem_of_getElem? (i := 439) (by decide +kernel), rfl⟩
theorem k_im_M_collect : Cond.instanceMethod y_M_collect ∈ tbG := List.mem_filter.mpr ⟨List.mem_of_getElem? (i := 441) (by decide +kernel), rfl⟩
theorem k_cd_M_collect : Cond.code y_M_collect b_M_collect 3 (Option.some FieldType.boolean) ∈ tbG := List.mem_filter.mpr ⟨List.mem_of_getElem? (i := 442) (by decide +kernel), rfl⟩
theorem k_ml_M_80 : Cond.methodLink R_M 80 y_M_put ∈ tbG := List.mem_filter.mpr ⟨List.mem_of_getElem? (i := 443) (by decide +kernel), rfl⟩
theorem k_im_M_put : Cond.instanceMethod y_M_put ∈ tbG := List.mem_filter.mpr ⟨List.mem_of_getElem? (i := 445) (by decide +kernel), rfl⟩
theorem k_cd_M_put : Cond.code y_M_put b_M_put 5 (Option.some FieldType.boolean) ∈ tbG := List.mem_filter.mpr ⟨List.mem_of_getElem? (i := 446) (by decide +kernel), rfl⟩
theorem k_ml_M_73 : Cond.methodLink R_M 73 y_M_operates ∈ tbG := List.mem_filter.mpr ⟨List.mem_of_getElem? (i := 447) (by decide +kernel), rfl⟩
theorem k_im_M_operates : Cond.instanceMethod y_M_operates ∈ tbG := List.mem_filter.mpr ⟨List.mem_of_getElem? (i := 449) (by decide +kernel), rfl⟩
theorem k_cd_M_operates : Cond.code y_M_operates b_M_operates 1 (Option.some FieldType.boolean) ∈ tbG := List.mem_filter.mpr ⟨List.mem_of_getElem? (i := 450) (by decide +kernel), rfl⟩
theorem k_ml_L_30 : Cond.methodLink R_law 30 y_M_write ∈ tbG := List.mem_filter.mpr ⟨List.mem_of_getElem? (i := 451) (by decide +kernel), rfl⟩
theorem k_im_M_write : Cond.instanceMethod y_M_write ∈ tbG := List.mem_filter.mpr ⟨List.mem_of_getElem? (i := 452) (by decide +kernel), rfl⟩
theorem k_se_M_write : Cond.selects R_M y_M_write y_M_write ∈ tbG := List.mem_filter.mpr ⟨List.mem_of_getElem? (i := 453) (by decide +kernel), rfl⟩
theorem k_cd_M_write : Cond.code y_M_write b_M_write 3 (Option.some FieldType.int) ∈ tbG := List.mem_filter.mpr ⟨List.mem_of_getElem? (i := 454) (by decide +kernel), rfl⟩
theorem k_ml_M_115 : Cond.methodLink R_M 115 y_M_change ∈ tbG := List.mem_filter.mpr ⟨List.mem_of_getElem? (i := 455) (by decide +kernel), rfl⟩
theorem k_im_M_change : Cond.instanceMethod y_M_change ∈ tbG := List.mem_filter.mpr ⟨List.mem_of_getElem? (i := 457) (by decide +kernel), rfl⟩
theorem k_cd_M_change : Cond.code y_M_change b_M_change 5 (Option.some FieldType.int) ∈ tbG := List.mem_filter.mpr ⟨List.mem_of_getElem? (i := 458) (by decide +kernel), rfl⟩
theorem k_ml_M_103 : Cond.methodLink R_M 103 y_M_isSector ∈ tbG := List.mem_filter.mpr ⟨List.mem_of_getElem? (i := 459) (by decide +kernel), rfl⟩
theorem k_im_M_isSector : Cond.instanceMethod y_M_isSector ∈ tbG := List.mem_filter.mpr ⟨List.mem_of_getElem? (i := 461) (by decide +kernel), rfl⟩
theorem k_cd_M_isSector : Cond.code y_M_isSector b_M_isSector 2 (Option.some FieldType.boolean) ∈ tbG := List.mem_filter.mpr ⟨List.mem_of_getElem? (i := 462) (by decide +kernel), rfl⟩
theorem k_ml_M_44 : Cond.methodLink R_M 44 y_M_sectors ∈ tbG := List.mem_filter.mpr ⟨List.mem_of_getElem? (i := 463) (by decide +kernel), rfl⟩
theorem k_ml_M_106 : Cond.methodLink R_M 106 y_M_find ∈ tbG := List.mem_filter.mpr ⟨List.mem_of_getElem? (i := 464) (by decide +kernel), rfl⟩
theorem k_im_M_find : Cond.instanceMethod y_M_find ∈ tbG := List.mem_filter.mpr ⟨List.mem_of_getElem? (i := 466) (by decide +kernel), rfl⟩
theorem k_cd_M_find : Cond.code y_M_find b_M_find 3 (Option.some FieldType.int) ∈ tbG := List.mem_filter.mpr ⟨List.mem_of_getElem? (i := 467) (by decide +kernel), rfl⟩
theorem k_ml_M_109 : Cond.methodLink R_M 109 y_M_store ∈ tbG := List.mem_filter.mpr ⟨List.mem_of_getElem? (i := 468) (by decide +kernel), rfl⟩
theorem k_im_M_store : Cond.instanceMethod y_M_store ∈ tbG := List.mem_filter.mpr ⟨List.mem_of_getElem? (i := 470) (by decide +kernel), rfl⟩
theorem k_cd_M_store : Cond.code y_M_store b_M_store 2 (Option.some FieldType.boolean) ∈ tbG := List.mem_filter.mpr ⟨List.mem_of_getElem? (i := 471) (by decide +kernel), rfl⟩
theorem k_ml_M_97 : Cond.methodLink R_M 97 y_M_room ∈ tbG := List.mem_filter.mpr ⟨List.mem_of_getElem? (i := 472) (by decide +kernel), rfl⟩
theorem k_im_M_room : Cond.instanceMethod y_M_room ∈ tbG := List.mem_filter.mpr ⟨List.mem_of_getElem? (i := 474) (by decide +kernel), rfl⟩
theorem k_cd_M_room : Cond.code y_M_room b_M_room 5 (Option.some FieldType.boolean) ∈ tbG := List.mem_filter.mpr ⟨List.mem_of_getElem? (i := 475) (by decide +kernel), rfl⟩
theorem k_ml_M_91 : Cond.methodLink R_M 91 y_M_uneven ∈ tbG := List.mem_filter.mpr ⟨List.mem_of_getElem? (i := 476) (by decide +kernel), rfl⟩
theorem k_im_M_uneven : Cond.instanceMethod y_M_uneven ∈ tbG := List.mem_filter.mpr ⟨List.mem_of_getElem? (i := 478) (by decide +kernel), rfl⟩
theorem k_cd_M_uneven : Cond.code y_M_uneven b_M_uneven 4 (Option.some FieldType.boolean) ∈ tbG := List.mem_filter.mpr ⟨List.mem_of_getElem? (i := 479) (by decide +kernel), rfl⟩
theorem k_ml_M_112 : Cond.methodLink R_M 112 y_M_cut ∈ tbG := List.mem_filter.mpr ⟨List.mem_of_getElem? (i := 480) (by decide +kernel), rfl⟩
theorem k_ml_L_35 : Cond.methodLink R_law 35 y_M_trim ∈ tbG := List.mem_filter.mpr ⟨List.mem_of_getElem? (i := 481) (by decide +kernel), rfl⟩
theorem k_im_M_trim : Cond.instanceMethod y_M_trim ∈ tbG := List.mem_filter.mpr ⟨List.mem_of_getElem? (i := 482) (by decide +kernel), rfl⟩
theorem k_se_M_trim : Cond.selects R_M y_M_trim y_M_trim ∈ tbG := List.mem_filter.mpr ⟨List.mem_of_getElem? (i := 483) (by decide +kernel), rfl⟩
theorem k_cd_M_trim : Cond.code y_M_trim b_M_trim 2 (Option.some FieldType.int) ∈ tbG := List.mem_filter.mpr ⟨List.mem_of_getElem? (i := 484) (by decide +kernel), rfl⟩
theorem k_ml_L_39 : Cond.methodLink R_law 39 y_M_flush ∈ tbG := List.mem_filter.mpr ⟨List.mem_of_getElem? (i := 485) (by decide +kernel), rfl⟩
theorem k_im_M_flush : Cond.instanceMethod y_M_flush ∈ tbG := List.mem_filter.mpr ⟨List.mem_of_getElem? (i := 486) (by decide +kernel), rfl⟩
theorem k_se_M_flush : Cond.selects R_M y_M_flush y_M_flush ∈ tbG := List.mem_filter.mpr ⟨List.mem_of_getElem? (i := 487) (by decide +kernel), rfl⟩
theorem k_cd_M_flush : Cond.code y_M_flush b_M_flush 1 (Option.some FieldType.int) ∈ tbG := List.mem_filter.mpr ⟨List.mem_of_getElem? (i := 488) (by decide +kernel), rfl⟩
theorem k_ml_L_48 : Cond.methodLink R_law 48 y_M_fuse ∈ tbG := List.mem_filter.mpr ⟨List.mem_of_getElem? (i := 489) (by decide +kernel), rfl⟩
theorem k_im_M_fuse : Cond.instanceMethod y_M_fuse ∈ tbG := List.mem_filter.mpr ⟨List.mem_of_getElem? (i := 490) (by decide +kernel), rfl⟩
theorem k_se_M_fuse : Cond.selects R_M y_M_fuse y_M_fuse ∈ tbG := List.mem_filter.mpr ⟨List.mem_of_getElem? (i := 491) (by decide +kernel), rfl⟩
theorem k_cd_M_fuse : Cond.code y_M_fuse b_M_fuse 2 (Option.some FieldType.boolean) ∈ tbG := List.mem_filter.mpr ⟨List.mem_of_getElem? (i := 492) (by decide +kernel), rfl⟩
theorem k_ml_L_52 : Cond.methodLink R_law 52 y_M_read ∈ tbG := List.mem_filter.mpr ⟨List.mem_of_getElem? (i := 493) (by decide +kernel), rfl⟩
theorem k_im_M_read : Cond.instanceMethod y_M_read ∈ tbG := List.mem_filter.mpr ⟨List.mem_of_getElem? (i := 494) (by decide +kernel), rfl⟩
theorem k_se_M_read : Cond.selects R_M y_M_read y_M_read ∈ tbG := List.mem_filter.mpr ⟨List.mem_of_getElem? (i := 495) (by decide +kernel), rfl⟩
theorem k_cd_M_read : Cond.code y_M_read b_M_read 4 (Option.some FieldType.int) ∈ tbG := List.mem_filter.mpr ⟨List.mem_of_getElem? (i := 496) (by decide +kernel), rfl⟩
theorem k_ml_L_56 : Cond.methodLink R_law 56 y_M_holds ∈ tbG := List.mem_filter.mpr ⟨List.mem_of_getElem? (i := 497) (by decide +kernel), rfl⟩
theorem k_im_M_holds : Cond.instanceMethod y_M_holds ∈ tbG := List.mem_filter.mpr ⟨List.mem_of_getElem? (i := 498) (by decide +kernel), rfl⟩
theorem k_se_M_holds : Cond.selects R_M y_M_holds y_M_holds ∈ tbG := List.mem_filter.mpr ⟨List.mem_of_getElem? (i := 499) (by decide +kernel), rfl⟩
theorem k_cd_M_holds : Cond.code y_M_holds b_M_holds 4 (Option.some FieldType.int) ∈ tbG := List.mem_filter.mpr ⟨List.mem_of_getElem? (i := 500) (by decide +kernel), rfl⟩
theorem k_ml_L_60 : Cond.methodLink R_law 60 y_M_buffered ∈ tbG := List.mem_filter.mpr ⟨List.mem_of_getElem? (i := 501) (by decide +kernel), rfl⟩
theorem k_im_M_buffered : Cond.instanceMethod y_M_buffered ∈ tbG := List.mem_filter.mpr ⟨List.mem_of_getElem? (i := 502) (by decide +kernel), rfl⟩
theorem k_se_M_buffered : Cond.selects R_M y_M_buffered y_M_buffered ∈ tbG := List.mem_filter.mpr ⟨List.mem_of_getElem? (i := 503) (by decide +kernel), rfl⟩
theorem k_cd_M_buffered : Cond.code y_M_buffered b_M_buffered 1 (Option.some FieldType.int) ∈ tbG := List.mem_filter.mpr ⟨List.mem_of_getElem? (i := 504) (by decide +kernel), rfl⟩
theorem k_ml_L_64 : Cond.methodLink R_law 64 y_M_place ∈ tbG := List.mem_filter.mpr ⟨List.mem_of_getElem? (i := 505) (by decide +kernel), rfl⟩
theorem k_im_M_place : Cond.instanceMethod y_M_place ∈ tbG := List.mem_filter.mpr ⟨List.mem_of_getElem? (i := 506) (by decide +kernel), rfl⟩
theorem k_se_M_place : Cond.selects R_M y_M_place y_M_place ∈ tbG := List.mem_filter.mpr ⟨List.mem_of_getElem? (i := 507) (by decide +kernel), rfl⟩
theorem k_cd_M_place : Cond.code y_M_place b_M_place 2 (Option.some FieldType.int) ∈ tbG := List.mem_filter.mpr ⟨List.mem_of_getElem? (i := 508) (by decide +kernel), rfl⟩
theorem k_ml_L_68 : Cond.methodLink R_law 68 y_M_tag ∈ tbG := List.mem_filter.mpr ⟨List.mem_of_getElem? (i := 509) (by decide +kernel), rfl⟩
theorem k_im_M_tag : Cond.instanceMethod y_M_tag ∈ tbG := List.mem_filter.mpr ⟨List.mem_of_getElem? (i := 510) (by decide +kernel), rfl⟩
theorem k_se_M_tag : Cond.selects R_M y_M_tag y_M_tag ∈ tbG := List.mem_filter.mpr ⟨List.mem_of_getElem? (i := 511) (by decide +kernel), rfl⟩
theorem k_cd_M_tag : Cond.code y_M_tag b_M_tag 2 (Option.some FieldType.int) ∈ tbG := List.mem_filter.mpr ⟨List.mem_of_getElem? (i := 512) (by decide +kernel), rfl⟩
theorem k_ml_M_119 : Cond.methodLink R_M 119 y_M_isPlace ∈ tbG := List.mem_filter.mpr ⟨List.mem_of_getElem? (i := 513) (by decide +kernel), rfl⟩
theorem k_im_M_isPlace : Cond.instanceMethod y_M_isPlace ∈ tbG := List.mem_filter.mpr ⟨List.mem_of_getElem? (i := 515) (by decide +kernel), rfl⟩
theorem k_cd_M_isPlace : Cond.code y_M_isPlace b_M_isPlace 2 (Option.some FieldType.boolean) ∈ tbG := List.mem_filter.mpr ⟨List.mem_of_getElem? (i := 516) (by decide +kernel), rfl⟩
theorem k_ml_L_72 : Cond.methodLink R_law 72 y_M_serial ∈ tbG := List.mem_filter.mpr ⟨List.mem_of_getElem? (i := 517) (by decide +kernel), rfl⟩
theorem k_im_M_serial : Cond.instanceMethod y_M_serial ∈ tbG := List.mem_filter.mpr ⟨List.mem_of_getElem? (i := 518) (by decide +kernel), rfl⟩
theorem k_se_M_serial : Cond.selects R_M y_M_serial y_M_serial ∈ tbG := List.mem_filter.mpr ⟨List.mem_of_getElem? (i := 519) (by decide +kernel), rfl⟩
theorem k_cd_M_serial : Cond.code y_M_serial b_M_serial 2 (Option.some FieldType.int) ∈ tbG := List.mem_filter.mpr ⟨List.mem_of_getElem? (i := 520) (by decide +kernel), rfl⟩
theorem k_ml_L_76 : Cond.methodLink R_law 76 y_M_valid ∈ tbG := List.mem_filter.mpr ⟨List.mem_of_getElem? (i := 521) (by decide +kernel), rfl⟩
theorem k_im_M_valid : Cond.instanceMethod y_M_valid ∈ tbG := List.mem_filter.mpr ⟨List.mem_of_getElem? (i := 522) (by decide +kernel), rfl⟩
theorem k_se_M_valid : Cond.selects R_M y_M_valid y_M_valid ∈ tbG := List.mem_filter.mpr ⟨List.mem_of_getElem? (i := 523) (by decide +kernel), rfl⟩
theorem k_cd_M_valid : Cond.code y_M_valid b_M_valid 2 (Option.some FieldType.int) ∈ tbG := List.mem_filter.mpr ⟨List.mem_of_getElem? (i := 524) (by decide +kernel), rfl⟩
theorem k_ml_M_122 : Cond.methodLink R_M 122 y_M_isBlock ∈ tbG := List.mem_filter.mpr ⟨List.mem_of_getElem? (i := 525) (by decide +kernel), rfl⟩
theorem k_im_M_isBlock : Cond.instanceMethod y_M_isBlock ∈ tbG := List.mem_filter.mpr ⟨List.mem_of_getElem? (i := 527) (by decide +kernel), rfl⟩
theorem k_cd_M_isBlock : Cond.code y_M_isBlock b_M_isBlock 2 (Option.some FieldType.boolean) ∈ tbG := List.mem_filter.mpr ⟨List.mem_of_getElem? (i := 528) (by decide +kernel), rfl⟩
theorem k_ml_L_80 : Cond.methodLink R_law 80 y_M_erasures ∈ tbG := List.mem_filter.mpr ⟨List.mem_of_getElem? (i := 529) (by decide +kernel), rfl⟩
theorem k_im_M_erasures : Cond.instanceMethod y_M_erasures ∈ tbG := List.mem_filter.mpr ⟨List.mem_of_getElem? (i := 530) (by decide +kernel), rfl⟩
theorem k_se_M_erasures : Cond.selects R_M y_M_erasures y_M_erasures ∈ tbG := List.mem_filter.mpr ⟨List.mem_of_getElem? (i := 531) (by decide +kernel), rfl⟩
theorem k_cd_M_erasures : Cond.code y_M_erasures b_M_erasures 2 (Option.some FieldType.int) ∈ tbG := List.mem_filter.mpr ⟨List.mem_of_getElem? (i := 532) (by decide +kernel), rfl⟩
theorem k_ml_L_84 : Cond.methodLink R_law 84 y_M_open ∈ tbG := List.mem_filter.mpr ⟨List.mem_of_getElem? (i := 533) (by decide +kernel), rfl⟩
theorem k_im_M_open : Cond.instanceMethod y_M_open ∈ tbG := List.mem_filter.mpr ⟨List.mem_of_getElem? (i := 534) (by decide +kernel), rfl⟩
theorem k_se_M_open : Cond.selects R_M y_M_open y_M_open ∈ tbG := List.mem_filter.mpr ⟨List.mem_of_getElem? (i := 535) (by decide +kernel), rfl⟩
theorem k_cd_M_open : Cond.code y_M_open b_M_open 1 (Option.some FieldType.int) ∈ tbG := List.mem_filter.mpr ⟨List.mem_of_getElem? (i := 536) (by decide +kernel), rfl⟩
theorem k_ml_L_88 : Cond.methodLink R_law 88 y_M_free ∈ tbG := List.mem_filter.mpr ⟨List.mem_of_getElem? (i := 537) (by decide +kernel), rfl⟩
theorem k_im_M_free : Cond.instanceMethod y_M_free ∈ tbG := List.mem_filter.mpr ⟨List.mem_of_getElem? (i := 538) (by decide +kernel), rfl⟩
theorem k_se_M_free : Cond.selects R_M y_M_free y_M_free ∈ tbG := List.mem_filter.mpr ⟨List.mem_of_getElem? (i := 539) (by decide +kernel), rfl⟩
theorem k_cd_M_free : Cond.code y_M_free b_M_free 1 (Option.some FieldType.int) ∈ tbG := List.mem_filter.mpr ⟨List.mem_of_getElem? (i := 540) (by decide +kernel), rfl⟩
theorem k_ml_L_92 : Cond.methodLink R_law 92 y_M_operations ∈ tbG := List.mem_filter.mpr ⟨List.mem_of_getElem? (i := 541) (by decide +kernel), rfl⟩
theorem k_im_M_operations : Cond.instanceMethod y_M_operations ∈ tbG := List.mem_filter.mpr ⟨List.mem_of_getElem? (i := 542) (by decide +kernel), rfl⟩
theorem k_se_M_operations : Cond.selects R_M y_M_operations y_M_operations ∈ tbG := List.mem_filter.mpr ⟨List.mem_of_getElem? (i := 543) (by decide +kernel), rfl⟩
theorem k_cd_M_operations : Cond.code y_M_operations b_M_operations 1 (Option.some FieldType.int) ∈ tbG := List.mem_filter.mpr ⟨List.mem_of_getElem? (i := 544) (by decide +kernel), rfl⟩
theorem k_se_W_lost : Cond.selects R_W y_W_lost y_W_lost ∈ tbG := List.mem_filter.mpr ⟨List.mem_of_getElem? (i := 0) (by decide +kernel), rfl⟩
theorem k_se_W_rebuild : Cond.selects R_W y_W_rebuild y_W_rebuild ∈ tbG := List.mem_filter.mpr ⟨List.mem_of_getElem? (i := 1) (by decide +kernel), rfl⟩
theorem k_se_W_push : Cond.selects R_W y_W_push y_W_push ∈ tbG := List.mem_filter.mpr ⟨List.mem_of_getElem? (i := 2) (by decide +kernel), rfl⟩
theorem k_se_W_serialAt : Cond.selects R_W y_W_serialAt y_W_serialAt ∈ tbG := List.mem_filter.mpr ⟨List.mem_of_getElem? (i := 3) (by decide +kernel), rfl⟩
theorem k_se_W_collect : Cond.selects R_W y_W_collect y_W_collect ∈ tbG := List.mem_filter.mpr ⟨List.mem_of_getElem? (i := 4) (by decide +kernel), rfl⟩
theorem k_se_W_program : Cond.selects R_W y_W_program y_W_program ∈ tbG := List.mem_filter.mpr ⟨List.mem_of_getElem? (i := 5) (by decide +kernel), rfl⟩
theorem k_se_W_operate : Cond.selects R_W y_W_operate y_W_operate ∈ tbG := List.mem_filter.mpr ⟨List.mem_of_getElem? (i := 6) (by decide +kernel), rfl⟩
theorem k_se_W_erase : Cond.selects R_W y_W_erase y_W_erase ∈ tbG := List.mem_filter.mpr ⟨List.mem_of_getElem? (i := 7) (by decide +kernel), rfl⟩
theorem k_se_W_put : Cond.selects R_W y_W_put y_W_put ∈ tbG := List.mem_filter.mpr ⟨List.mem_of_getElem? (i := 8) (by decide +kernel), rfl⟩
theorem k_se_W_isSector : Cond.selects R_W y_W_isSector y_W_isSector ∈ tbG := List.mem_filter.mpr ⟨List.mem_of_getElem? (i := 9) (by decide +kernel), rfl⟩
theorem k_se_W_entry : Cond.selects R_W y_W_entry y_W_entry ∈ tbG := List.mem_filter.mpr ⟨List.mem_of_getElem? (i := 10) (by decide +kernel), rfl⟩
theorem k_se_W_store : Cond.selects R_W y_W_store y_W_store ∈ tbG := List.mem_filter.mpr ⟨List.mem_of_getElem? (i := 11) (by decide +kernel), rfl⟩
theorem k_se_W_provide : Cond.selects R_W y_W_provide y_W_provide ∈ tbG := List.mem_filter.mpr ⟨List.mem_of_getElem? (i := 12) (by decide +kernel), rfl⟩
theorem k_se_W_pop : Cond.selects R_W y_W_pop y_W_pop ∈ tbG := List.mem_filter.mpr ⟨List.mem_of_getElem? (i := 13) (by decide +kernel), rfl⟩
theorem k_se_W_isWorn : Cond.selects R_W y_W_isWorn y_W_isWorn ∈ tbG := List.mem_filter.mpr ⟨List.mem_of_getElem? (i := 14) (by decide +kernel), rfl⟩
theorem k_se_W_programmed : Cond.selects R_W y_W_programmed y_W_programmed ∈ tbG := List.mem_filter.mpr ⟨List.mem_of_getElem? (i := 15) (by decide +kernel), rfl⟩
theorem k_se_W_isBlock : Cond.selects R_W y_W_isBlock y_W_isBlock ∈ tbG := List.mem_filter.mpr ⟨List.mem_of_getElem? (i := 16) (by decide +kernel), rfl⟩
theorem k_se_M_programmed : Cond.selects R_M y_M_programmed y_M_programmed ∈ tbG := List.mem_filter.mpr ⟨List.mem_of_getElem? (i := 17) (by decide +kernel), rfl⟩
theorem k_se_M_freeBlocks : Cond.selects R_M y_M_freeBlocks y_M_freeBlocks ∈ tbG := List.mem_filter.mpr ⟨List.mem_of_getElem? (i := 18) (by decide +kernel), rfl⟩
theorem k_se_M_pick : Cond.selects R_M y_M_pick y_M_pick ∈ tbG := List.mem_filter.mpr ⟨List.mem_of_getElem? (i := 19) (by decide +kernel), rfl⟩
theorem k_se_M_validIn : Cond.selects R_M y_M_validIn y_M_validIn ∈ tbG := List.mem_filter.mpr ⟨List.mem_of_getElem? (i := 20) (by decide +kernel), rfl⟩
theorem k_se_M_isValid : Cond.selects R_M y_M_isValid y_M_isValid ∈ tbG := List.mem_filter.mpr ⟨List.mem_of_getElem? (i := 21) (by decide +kernel), rfl⟩
theorem k_se_M_newest : Cond.selects R_M y_M_newest y_M_newest ∈ tbG := List.mem_filter.mpr ⟨List.mem_of_getElem? (i := 22) (by decide +kernel), rfl⟩
theorem k_se_M_collect : Cond.selects R_M y_M_collect y_M_collect ∈ tbG := List.mem_filter.mpr ⟨List.mem_of_getElem? (i := 23) (by decide +kernel), rfl⟩
theorem k_se_M_put : Cond.selects R_M y_M_put y_M_put ∈ tbG := List.mem_filter.mpr ⟨List.mem_of_getElem? (i := 24) (by decide +kernel), rfl⟩
theorem k_se_M_operates : Cond.selects R_M y_M_operates y_M_operates ∈ tbG := List.mem_filter.mpr ⟨List.mem_of_getElem? (i := 25) (by decide +kernel), rfl⟩
theorem k_se_M_change : Cond.selects R_M y_M_change y_M_change ∈ tbG := List.mem_filter.mpr ⟨List.mem_of_getElem? (i := 26) (by decide +kernel), rfl⟩
theorem k_se_M_isSector : Cond.selects R_M y_M_isSector y_M_isSector ∈ tbG := List.mem_filter.mpr ⟨List.mem_of_getElem? (i := 27) (by decide +kernel), rfl⟩
theorem k_se_M_find : Cond.selects R_M y_M_find y_M_find ∈ tbG := List.mem_filter.mpr ⟨List.mem_of_getElem? (i := 28) (by decide +kernel), rfl⟩
theorem k_se_M_store : Cond.selects R_M y_M_store y_M_store ∈ tbG := List.mem_filter.mpr ⟨List.mem_of_getElem? (i := 29) (by decide +kernel), rfl⟩
theorem k_se_M_room : Cond.selects R_M y_M_room y_M_room ∈ tbG := List.mem_filter.mpr ⟨List.mem_of_getElem? (i := 30) (by decide +kernel), rfl⟩
theorem k_se_M_uneven : Cond.selects R_M y_M_uneven y_M_uneven ∈ tbG := List.mem_filter.mpr ⟨List.mem_of_getElem? (i := 31) (by decide +kernel), rfl⟩
theorem k_se_M_isPlace : Cond.selects R_M y_M_isPlace y_M_isPlace ∈ tbG := List.mem_filter.mpr ⟨List.mem_of_getElem? (i := 32) (by decide +kernel), rfl⟩
theorem k_se_M_isBlock : Cond.selects R_M y_M_isBlock y_M_isBlock ∈ tbG := List.mem_filter.mpr ⟨List.mem_of_getElem? (i := 33) (by decide +kernel), rfl⟩
set_option maxRecDepth 20000 in
theorem k_mn_W_9 : Cond.methodLinkNest R_W 9 y_E_init "WornFlash" ∈ tbN := List.mem_of_getElem? (i := 0) rfl
set_option maxRecDepth 20000 in
theorem k_fn_W_154 : Cond.fieldLinkNest R_W 154 "WornFlash$Entry" "sector" "I" "WornFlash" ∈ tbN := List.mem_of_getElem? (i := 1) rfl
set_option maxRecDepth 20000 in
theorem k_fn_W_156 : Cond.fieldLinkNest R_W 156 "WornFlash$Entry" "value" "I" "WornFlash" ∈ tbN := List.mem_of_getElem? (i := 2) rfl
set_option maxRecDepth 20000 in
theorem k_fn_W_158 : Cond.fieldLinkNest R_W 158 "WornFlash$Entry" "trim" "Z" "WornFlash" ∈ tbN := List.mem_of_getElem? (i := 3) rfl
set_option maxRecDepth 20000 in
theorem k_mn_W_18 : Cond.methodLinkNest R_W 18 y_G_init "WornFlash" ∈ tbN := List.mem_of_getElem? (i := 4) rfl
set_option maxRecDepth 20000 in
theorem k_mn_W_25 : Cond.methodLinkNest R_W 25 y_V_init "WornFlash" ∈ tbN := List.mem_of_getElem? (i := 5) rfl
set_option maxRecDepth 20000 in
theorem k_fn_W_187 : Cond.fieldLinkNest R_W 187 "WornFlash$Block" "number" "I" "WornFlash" ∈ tbN := List.mem_of_getElem? (i := 6) rfl
set_option maxRecDepth 20000 in
theorem k_fn_W_100 : Cond.fieldLinkNest R_W 100 "WornFlash$Block" "erasures" "I" "WornFlash" ∈ tbN := List.mem_of_getElem? (i := 7) rfl
set_option maxRecDepth 20000 in
theorem k_fn_W_73 : Cond.fieldLinkNest R_W 73 "WornFlash$Block" "used" "I" "WornFlash" ∈ tbN := List.mem_of_getElem? (i := 8) rfl
set_option maxRecDepth 20000 in
theorem k_fn_G_7 : Cond.fieldLinkNest R_G 7 "WornFlash$Block" "valid" "I" "WornFlash" ∈ tbN := List.mem_of_getElem? (i := 9) rfl
set_option maxRecDepth 20000 in
theorem k_fn_W_93 : Cond.fieldLinkNest R_W 93 "WornFlash$Block" "valid" "I" "WornFlash" ∈ tbN := List.mem_of_getElem? (i := 10) rfl
set_option maxRecDepth 20000 in
theorem k_fn_W_76 : Cond.fieldLinkNest R_W 76 "WornFlash$Block" "sector" "[B" "WornFlash" ∈ tbN := List.mem_of_getElem? (i := 11) rfl
set_option maxRecDepth 20000 in
theorem k_fn_W_79 : Cond.fieldLinkNest R_W 79 "WornFlash$Block" "value" "[I" "WornFlash" ∈ tbN := List.mem_of_getElem? (i := 12) rfl
set_option maxRecDepth 20000 in
theorem k_fn_W_87 : Cond.fieldLinkNest R_W 87 "WornFlash$Block" "serial" "[I" "WornFlash" ∈ tbN := List.mem_of_getElem? (i := 13) rfl
set_option maxRecDepth 20000 in
theorem k_fn_W_83 : Cond.fieldLinkNest R_W 83 "WornFlash$Block" "trim" "[Z" "WornFlash" ∈ tbN := List.mem_of_getElem? (i := 14) rfl
end
section
theorem d_W_init_0 : decode b_W_init 0 = .ok (.aload_n 0, 1) := by decide +kernel
theorem d_W_init_1 : decode b_W_init 1 = .ok (.invokespecial 1, 3) := by decide +kernel
theorem d_W_init_4 : decode b_W_init 4 = .ok (.aload_n 0, 1) := by decide +kernel
theorem d_W_init_5 : decode b_W_init 5 = .ok (.iconst 3, 1) := by decide +kernel
theorem d_W_init_6 : decode b_W_init 6 = .ok (.anewarray 7, 3) := by decide +kernel
theorem d_W_init_9 : decode b_W_init 9 = .ok (.dup, 1) := by decide +kernel
theorem d_W_init_10 : decode b_W_init 10 = .ok (.iconst 0, 1) := by decide +kernel
theorem d_W_init_11 : decode b_W_init 11 = .ok (.new 7, 3) := by decide +kernel
theorem d_W_init_14 : decode b_W_init 14 = .ok (.dup, 1) := by decide +kernel
theorem d_W_init_15 : decode b_W_init 15 = .ok (.invokespecial 9, 3) := by decide +kernel
theorem d_W_init_18 : decode b_W_init 18 = .ok (.aastore, 1) := by decide +kernel
theorem d_W_init_19 : decode b_W_init 19 = .ok (.dup, 1) := by decide +kernel
theorem d_W_init_20 : decode b_W_init 20 = .ok (.iconst 1, 1) := by decide +kernel
theorem d_W_init_21 : decode b_W_init 21 = .ok (.new 7, 3) := by decide +kernel
theorem d_W_init_24 : decode b_W_init 24 = .ok (.dup, 1) := by decide +kernel
theorem d_W_init_25 : decode b_W_init 25 = .ok (.invokespecial 9, 3) := by decide +kernel
theorem d_W_init_28 : decode b_W_init 28 = .ok (.aastore, 1) := by decide +kernel
theorem d_W_init_29 : decode b_W_init 29 = .ok (.dup, 1) := by decide +kernel
theorem d_W_init_30 : decode b_W_init 30 = .ok (.iconst 2, 1) := by decide +kernel
theorem d_W_init_31 : decode b_W_init 31 = .ok (.new 7, 3) := by decide +kernel
theorem d_W_init_34 : decode b_W_init 34 = .ok (.dup, 1) := by decide +kernel
theorem d_W_init_35 : decode b_W_init 35 = .ok (.invokespecial 9, 3) := by decide +kernel
theorem d_W_init_38 : decode b_W_init 38 = .ok (.aastore, 1) := by decide +kernel
theorem d_W_init_39 : decode b_W_init 39 = .ok (.putfield 10, 3) := by decide +kernel
theorem d_W_init_42 : decode b_W_init 42 = .ok (.aload_n 0, 1) := by decide +kernel
theorem d_W_init_43 : decode b_W_init 43 = .ok (.new 16, 3) := by decide +kernel
theorem d_W_init_46 : decode b_W_init 46 = .ok (.dup, 1) := by decide +kernel
theorem d_W_init_47 : decode b_W_init 47 = .ok (.invokespecial 18, 3) := by decide +kernel
theorem d_W_init_50 : decode b_W_init 50 = .ok (.putfield 19, 3) := by decide +kernel
theorem d_W_init_53 : decode b_W_init 53 = .ok (.aload_n 0, 1) := by decide +kernel
theorem d_W_init_54 : decode b_W_init 54 = .ok (.new 23, 3) := by decide +kernel
theorem d_W_init_57 : decode b_W_init 57 = .ok (.dup, 1) := by decide +kernel
theorem d_W_init_58 : decode b_W_init 58 = .ok (.invokespecial 25, 3) := by decide +kernel
theorem d_W_init_61 : decode b_W_init 61 = .ok (.putfield 26, 3) := by decide +kernel
theorem d_W_init_64 : decode b_W_init 64 = .ok (.iload_n 1, 1) := by decide +kernel
theorem d_W_init_65 : decode b_W_init 65 = .ok (.iconst 5, 1) := by decide +kernel
theorem d_W_init_66 : decode b_W_init 66 = .ok (.if_icmp .lt 9, 3) := by decide +kernel
theorem d_W_init_69 : decode b_W_init 69 = .ok (.iload_n 1, 1) := by decide +kernel
theorem d_W_init_70 : decode b_W_init 70 = .ok (.bipush 12, 2) := by decide +kernel
theorem d_W_init_72 : decode b_W_init 72 = .ok (.if_icmp .le 8, 3) := by decide +kernel
theorem d_W_init_75 : decode b_W_init 75 = .ok (.bipush 8, 2) := by decide +kernel
theorem d_W_init_77 : decode b_W_init 77 = .ok (.goto 4, 3) := by decide +kernel
theorem d_W_init_80 : decode b_W_init 80 = .ok (.iload_n 1, 1) := by decide +kernel
theorem d_W_init_81 : decode b_W_init 81 = .ok (.istore_n 3, 1) := by decide +kernel
theorem d_W_init_82 : decode b_W_init 82 = .ok (.aload_n 0, 1) := by decide +kernel
theorem d_W_init_83 : decode b_W_init 83 = .ok (.iload_n 2, 1) := by decide +kernel
theorem d_W_init_84 : decode b_W_init 84 = .ok (.iconst 1, 1) := by decide +kernel
theorem d_W_init_85 : decode b_W_init 85 = .ok (.if_icmp .lt 9, 3) := by decide +kernel
theorem d_W_init_88 : decode b_W_init 88 = .ok (.iload_n 2, 1) := by decide +kernel
theorem d_W_init_89 : decode b_W_init 89 = .ok (.bipush 50, 2) := by decide +kernel
theorem d_W_init_91 : decode b_W_init 91 = .ok (.if_icmp .le 7, 3) := by decide +kernel
theorem d_W_init_94 : decode b_W_init 94 = .ok (.iconst 4, 1) := by decide +kernel
theorem d_W_init_95 : decode b_W_init 95 = .ok (.goto 4, 3) := by decide +kernel
theorem d_W_init_98 : decode b_W_init 98 = .ok (.iload_n 2, 1) := by decide +kernel
theorem d_W_init_99 : decode b_W_init 99 = .ok (.putfield 29, 3) := by decide +kernel
theorem d_W_init_102 : decode b_W_init 102 = .ok (.aload_n 0, 1) := by decide +kernel
theorem d_W_init_103 : decode b_W_init 103 = .ok (.iload_n 3, 1) := by decide +kernel
theorem d_W_init_104 : decode b_W_init 104 = .ok (.anewarray 33, 3) := by decide +kernel
theorem d_W_init_107 : decode b_W_init 107 = .ok (.putfield 35, 3) := by decide +kernel
theorem d_W_init_110 : decode b_W_init 110 = .ok (.aload_n 0, 1) := by decide +kernel
theorem d_W_init_111 : decode b_W_init 111 = .ok (.iload_n 3, 1) := by decide +kernel
theorem d_W_init_112 : decode b_W_init 112 = .ok (.anewarray 33, 3) := by decide +kernel
theorem d_W_init_115 : decode b_W_init 115 = .ok (.putfield 39, 3) := by decide +kernel
theorem d_W_init_118 : decode b_W_init 118 = .ok (.aload_n 0, 1) := by decide +kernel
theorem d_W_init_119 : decode b_W_init 119 = .ok (.iconst 4, 1) := by decide +kernel
theorem d_W_init_120 : decode b_W_init 120 = .ok (.iload_n 3, 1) := by decide +kernel
theorem d_W_init_121 : decode b_W_init 121 = .ok (.iconst 3, 1) := by decide +kernel
theorem d_W_init_122 : decode b_W_init 122 = .ok (.isub, 1) := by decide +kernel
theorem d_W_init_123 : decode b_W_init 123 = .ok (.imul, 1) := by decide +kernel
theorem d_W_init_124 : decode b_W_init 124 = .ok (.newarray .byte, 2) := by decide +kernel
theorem d_W_init_126 : decode b_W_init 126 = .ok (.putfield 42, 3) := by decide +kernel
theorem d_W_init_129 : decode b_W_init 129 = .ok (.iconst 0, 1) := by decide +kernel
theorem d_W_init_130 : decode b_W_init 130 = .ok (.istore 4, 2) := by decide +kernel
theorem d_W_init_132 : decode b_W_init 132 = .ok (.iload 4, 2) := by decide +kernel
theorem d_W_init_134 : decode b_W_init 134 = .ok (.iload_n 3, 1) := by decide +kernel
theorem d_W_init_135 : decode b_W_init 135 = .ok (.if_icmp .ge 39, 3) := by decide +kernel
theorem d_W_init_138 : decode b_W_init 138 = .ok (.aload_n 0, 1) := by decide +kernel
theorem d_W_init_139 : decode b_W_init 139 = .ok (.getfield 35, 3) := by decide +kernel
theorem d_W_init_142 : decode b_W_init 142 = .ok (.iload 4, 2) := by decide +kernel
theorem d_W_init_144 : decode b_W_init 144 = .ok (.new 33, 3) := by decide +kernel
theorem d_W_init_147 : decode b_W_init 147 = .ok (.dup, 1) := by decide +kernel
theorem d_W_init_148 : decode b_W_init 148 = .ok (.iload 4, 2) := by decide +kernel
theorem d_W_init_150 : decode b_W_init 150 = .ok (.invokespecial 46, 3) := by decide +kernel
theorem d_W_init_153 : decode b_W_init 153 = .ok (.aastore, 1) := by decide +kernel
theorem d_W_init_154 : decode b_W_init 154 = .ok (.aload_n 0, 1) := by decide +kernel
theorem d_W_init_155 : decode b_W_init 155 = .ok (.getfield 39, 3) := by decide +kernel
theorem d_W_init_158 : decode b_W_init 158 = .ok (.iload 4, 2) := by decide +kernel
theorem d_W_init_160 : decode b_W_init 160 = .ok (.aload_n 0, 1) := by decide +kernel
theorem d_W_init_161 : decode b_W_init 161 = .ok (.getfield 35, 3) := by decide +kernel
theorem d_W_init_164 : decode b_W_init 164 = .ok (.iload 4, 2) := by decide +kernel
theorem d_W_init_166 : decode b_W_init 166 = .ok (.aaload, 1) := by decide +kernel
theorem d_W_init_167 : decode b_W_init 167 = .ok (.aastore, 1) := by decide +kernel
theorem d_W_init_168 : decode b_W_init 168 = .ok (.iinc 4 1, 3) := by decide +kernel
theorem d_W_init_171 : decode b_W_init 171 = .ok (.goto (-39), 3) := by decide +kernel
theorem d_W_init_174 : decode b_W_init 174 = .ok (.aload_n 0, 1) := by decide +kernel
theorem d_W_init_175 : decode b_W_init 175 = .ok (.iload_n 3, 1) := by decide +kernel
theorem d_W_init_176 : decode b_W_init 176 = .ok (.putfield 49, 3) := by decide +kernel
theorem d_W_init_179 : decode b_W_init 179 = .ok (.iconst 0, 1) := by decide +kernel
theorem d_W_init_180 : decode b_W_init 180 = .ok (.istore 4, 2) := by decide +kernel
theorem d_W_init_182 : decode b_W_init 182 = .ok (.iload 4, 2) := by decide +kernel
theorem d_W_init_184 : decode b_W_init 184 = .ok (.aload_n 0, 1) := by decide +kernel
theorem d_W_init_185 : decode b_W_init 185 = .ok (.getfield 42, 3) := by decide +kernel
theorem d_W_init_188 : decode b_W_init 188 = .ok (.arraylength, 1) := by decide +kernel
theorem d_W_init_189 : decode b_W_init 189 = .ok (.if_icmp .ge 17, 3) := by decide +kernel
theorem d_W_init_192 : decode b_W_init 192 = .ok (.aload_n 0, 1) := by decide +kernel
theorem d_W_init_193 : decode b_W_init 193 = .ok (.getfield 42, 3) := by decide +kernel
theorem d_W_init_196 : decode b_W_init 196 = .ok (.iload 4, 2) := by decide +kernel
theorem d_W_init_198 : decode b_W_init 198 = .ok (.iconst (-1), 1) := by decide +kernel
theorem d_W_init_199 : decode b_W_init 199 = .ok (.bastore, 1) := by decide +kernel
theorem d_W_init_200 : decode b_W_init 200 = .ok (.iinc 4 1, 3) := by decide +kernel
theorem d_W_init_203 : decode b_W_init 203 = .ok (.goto (-21), 3) := by decide +kernel
theorem d_W_init_206 : decode b_W_init 206 = .ok (.return_, 1) := by decide +kernel
theorem d_E_init_0 : decode b_E_init 0 = .ok (.aload_n 0, 1) := by decide +kernel
theorem d_E_init_1 : decode b_E_init 1 = .ok (.invokespecial 1, 3) := by decide +kernel
theorem d_E_init_4 : decode b_E_init 4 = .ok (.return_, 1) := by decide +kernel
theorem d_G_init_0 : decode b_G_init 0 = .ok (.aload_n 0, 1) := by decide +kernel
theorem d_G_init_1 : decode b_G_init 1 = .ok (.invokespecial 1, 3) := by decide +kernel
theorem d_G_init_4 : decode b_G_init 4 = .ok (.return_, 1) := by decide +kernel
theorem d_J_recInit_0 : decode b_J_recInit 0 = .ok (.aload_n 0, 1) := by decide +kernel
theorem d_J_recInit_1 : decode b_J_recInit 1 = .ok (.invokespecial 1, 3) := by decide +kernel
theorem d_J_recInit_4 : decode b_J_recInit 4 = .ok (.return_, 1) := by decide +kernel
theorem d_V_init_0 : decode b_V_init 0 = .ok (.aload_n 0, 1) := by decide +kernel
theorem d_V_init_1 : decode b_V_init 1 = .ok (.invokespecial 1, 3) := by decide +kernel
theorem d_V_init_4 : decode b_V_init 4 = .ok (.return_, 1) := by decide +kernel
theorem d_B_init_0 : decode b_B_init 0 = .ok (.aload_n 0, 1) := by decide +kernel
theorem d_B_init_1 : decode b_B_init 1 = .ok (.invokespecial 3, 3) := by decide +kernel
theorem d_B_init_4 : decode b_B_init 4 = .ok (.aload_n 0, 1) := by decide +kernel
theorem d_B_init_5 : decode b_B_init 5 = .ok (.iconst 4, 1) := by decide +kernel
theorem d_B_init_6 : decode b_B_init 6 = .ok (.newarray .byte, 2) := by decide +kernel
theorem d_B_init_8 : decode b_B_init 8 = .ok (.putfield 9, 3) := by decide +kernel
theorem d_B_init_11 : decode b_B_init 11 = .ok (.aload_n 0, 1) := by decide +kernel
theorem d_B_init_12 : decode b_B_init 12 = .ok (.iconst 4, 1) := by decide +kernel
theorem d_B_init_13 : decode b_B_init 13 = .ok (.newarray .int, 2) := by decide +kernel
theorem d_B_init_15 : decode b_B_init 15 = .ok (.putfield 15, 3) := by decide +kernel
theorem d_B_init_18 : decode b_B_init 18 = .ok (.aload_n 0, 1) := by decide +kernel
theorem d_B_init_19 : decode b_B_init 19 = .ok (.iconst 4, 1) := by decide +kernel
theorem d_B_init_20 : decode b_B_init 20 = .ok (.newarray .int, 2) := by decide +kernel
theorem d_B_init_22 : decode b_B_init 22 = .ok (.putfield 19, 3) := by decide +kernel
theorem d_B_init_25 : decode b_B_init 25 = .ok (.aload_n 0, 1) := by decide +kernel
theorem d_B_init_26 : decode b_B_init 26 = .ok (.iconst 4, 1) := by decide +kernel
theorem d_B_init_27 : decode b_B_init 27 = .ok (.newarray .boolean, 2) := by decide +kernel
theorem d_B_init_29 : decode b_B_init 29 = .ok (.putfield 22, 3) := by decide +kernel
theorem d_B_init_32 : decode b_B_init 32 = .ok (.aload_n 0, 1) := by decide +kernel
theorem d_B_init_33 : decode b_B_init 33 = .ok (.iload_n 1, 1) := by decide +kernel
theorem d_B_init_34 : decode b_B_init 34 = .ok (.putfield 26, 3) := by decide +kernel
theorem d_B_init_37 : decode b_B_init 37 = .ok (.return_, 1) := by decide +kernel
theorem d_W_cut_0 : decode b_W_cut 0 = .ok (.aload_n 0, 1) := by decide +kernel
theorem d_W_cut_1 : decode b_W_cut 1 = .ok (.invokevirtual 147, 3) := by decide +kernel
theorem d_W_cut_4 : decode b_W_cut 4 = .ok (.pop, 1) := by decide +kernel
theorem d_W_cut_5 : decode b_W_cut 5 = .ok (.return_, 1) := by decide +kernel
theorem d_W_lost_0 : decode b_W_lost 0 = .ok (.aload_n 0, 1) := by decide +kernel
theorem d_W_lost_1 : decode b_W_lost 1 = .ok (.invokevirtual 132, 3) := by decide +kernel
theorem d_W_lost_4 : decode b_W_lost 4 = .ok (.iconst 0, 1) := by decide +kernel
theorem d_W_lost_5 : decode b_W_lost 5 = .ok (.istore_n 1, 1) := by decide +kernel
theorem d_W_lost_6 : decode b_W_lost 6 = .ok (.iload_n 1, 1) := by decide +kernel
theorem d_W_lost_7 : decode b_W_lost 7 = .ok (.iconst 4, 1) := by decide +kernel
theorem d_W_lost_8 : decode b_W_lost 8 = .ok (.if_icmp .ge 31, 3) := by decide +kernel
theorem d_W_lost_11 : decode b_W_lost 11 = .ok (.aload_n 0, 1) := by decide +kernel
theorem d_W_lost_12 : decode b_W_lost 12 = .ok (.getfield 49, 3) := by decide +kernel
theorem d_W_lost_15 : decode b_W_lost 15 = .ok (.ifCond .ne 24, 3) := by decide +kernel
theorem d_W_lost_18 : decode b_W_lost 18 = .ok (.aload_n 0, 1) := by decide +kernel
theorem d_W_lost_19 : decode b_W_lost 19 = .ok (.aload_n 0, 1) := by decide +kernel
theorem d_W_lost_20 : decode b_W_lost 20 = .ok (.getfield 19, 3) := by decide +kernel
theorem d_W_lost_23 : decode b_W_lost 23 = .ok (.invokevirtual 128, 3) := by decide +kernel
theorem d_W_lost_26 : decode b_W_lost 26 = .ok (.ifCond .ne 13, 3) := by decide +kernel
theorem d_W_lost_29 : decode b_W_lost 29 = .ok (.aload_n 0, 1) := by decide +kernel
theorem d_W_lost_30 : decode b_W_lost 30 = .ok (.invokevirtual 132, 3) := by decide +kernel
theorem d_W_lost_33 : decode b_W_lost 33 = .ok (.iinc 1 1, 3) := by decide +kernel
theorem d_W_lost_36 : decode b_W_lost 36 = .ok (.goto (-30), 3) := by decide +kernel
theorem d_W_lost_39 : decode b_W_lost 39 = .ok (.iconst 1, 1) := by decide +kernel
theorem d_W_lost_40 : decode b_W_lost 40 = .ok (.ireturn, 1) := by decide +kernel
theorem d_W_rebuild_0 : decode b_W_rebuild 0 = .ok (.aload_n 0, 1) := by decide +kernel
theorem d_W_rebuild_1 : decode b_W_rebuild 1 = .ok (.iconst 0, 1) := by decide +kernel
theorem d_W_rebuild_2 : decode b_W_rebuild 2 = .ok (.putfield 135, 3) := by decide +kernel
theorem d_W_rebuild_5 : decode b_W_rebuild 5 = .ok (.aload_n 0, 1) := by decide +kernel
theorem d_W_rebuild_6 : decode b_W_rebuild 6 = .ok (.aconst_null, 1) := by decide +kernel
theorem d_W_rebuild_7 : decode b_W_rebuild 7 = .ok (.putfield 62, 3) := by decide +kernel
theorem d_W_rebuild_10 : decode b_W_rebuild 10 = .ok (.aload_n 0, 1) := by decide +kernel
theorem d_W_rebuild_11 : decode b_W_rebuild 11 = .ok (.iconst 0, 1) := by decide +kernel
theorem d_W_rebuild_12 : decode b_W_rebuild 12 = .ok (.putfield 49, 3) := by decide +kernel
theorem d_W_rebuild_15 : decode b_W_rebuild 15 = .ok (.aload_n 0, 1) := by decide +kernel
theorem d_W_rebuild_16 : decode b_W_rebuild 16 = .ok (.iconst 0, 1) := by decide +kernel
theorem d_W_rebuild_17 : decode b_W_rebuild 17 = .ok (.putfield 90, 3) := by decide +kernel
theorem d_W_rebuild_20 : decode b_W_rebuild 20 = .ok (.iconst 0, 1) := by decide +kernel
theorem d_W_rebuild_21 : decode b_W_rebuild 21 = .ok (.istore_n 1, 1) := by decide +kernel
theorem d_W_rebuild_22 : decode b_W_rebuild 22 = .ok (.iload_n 1, 1) := by decide +kernel
theorem d_W_rebuild_23 : decode b_W_rebuild 23 = .ok (.aload_n 0, 1) := by decide +kernel
theorem d_W_rebuild_24 : decode b_W_rebuild 24 = .ok (.getfield 42, 3) := by decide +kernel
theorem d_W_rebuild_27 : decode b_W_rebuild 27 = .ok (.arraylength, 1) := by decide +kernel
theorem d_W_rebuild_28 : decode b_W_rebuild 28 = .ok (.if_icmp .ge 16, 3) := by decide +kernel
theorem d_W_rebuild_31 : decode b_W_rebuild 31 = .ok (.aload_n 0, 1) := by decide +kernel
theorem d_W_rebuild_32 : decode b_W_rebuild 32 = .ok (.getfield 42, 3) := by decide +kernel
theorem d_W_rebuild_35 : decode b_W_rebuild 35 = .ok (.iload_n 1, 1) := by decide +kernel
theorem d_W_rebuild_36 : decode b_W_rebuild 36 = .ok (.iconst (-1), 1) := by decide +kernel
theorem d_W_rebuild_37 : decode b_W_rebuild 37 = .ok (.bastore, 1) := by decide +kernel
theorem d_W_rebuild_38 : decode b_W_rebuild 38 = .ok (.iinc 1 1, 3) := by decide +kernel
theorem d_W_rebuild_41 : decode b_W_rebuild 41 = .ok (.goto (-19), 3) := by decide +kernel
theorem d_W_rebuild_44 : decode b_W_rebuild 44 = .ok (.aload_n 0, 1) := by decide +kernel
theorem d_W_rebuild_45 : decode b_W_rebuild 45 = .ok (.getfield 35, 3) := by decide +kernel
theorem d_W_rebuild_48 : decode b_W_rebuild 48 = .ok (.astore_n 1, 1) := by decide +kernel
theorem d_W_rebuild_49 : decode b_W_rebuild 49 = .ok (.aload_n 1, 1) := by decide +kernel
theorem d_W_rebuild_50 : decode b_W_rebuild 50 = .ok (.arraylength, 1) := by decide +kernel
theorem d_W_rebuild_51 : decode b_W_rebuild 51 = .ok (.istore_n 2, 1) := by decide +kernel
theorem d_W_rebuild_52 : decode b_W_rebuild 52 = .ok (.iconst 0, 1) := by decide +kernel
theorem d_W_rebuild_53 : decode b_W_rebuild 53 = .ok (.istore_n 3, 1) := by decide +kernel
theorem d_W_rebuild_54 : decode b_W_rebuild 54 = .ok (.iload_n 3, 1) := by decide +kernel
theorem d_W_rebuild_55 : decode b_W_rebuild 55 = .ok (.iload_n 2, 1) := by decide +kernel
theorem d_W_rebuild_56 : decode b_W_rebuild 56 = .ok (.if_icmp .ge 152, 3) := by decide +kernel
theorem d_W_rebuild_59 : decode b_W_rebuild 59 = .ok (.aload_n 1, 1) := by decide +kernel
theorem d_W_rebuild_60 : decode b_W_rebuild 60 = .ok (.iload_n 3, 1) := by decide +kernel
theorem d_W_rebuild_61 : decode b_W_rebuild 61 = .ok (.aaload, 1) := by decide +kernel
theorem d_W_rebuild_62 : decode b_W_rebuild 62 = .ok (.astore 4, 2) := by decide +kernel
theorem d_W_rebuild_64 : decode b_W_rebuild 64 = .ok (.aload 4, 2) := by decide +kernel
theorem d_W_rebuild_66 : decode b_W_rebuild 66 = .ok (.iconst 0, 1) := by decide +kernel
theorem d_W_rebuild_67 : decode b_W_rebuild 67 = .ok (.putfield 93, 3) := by decide +kernel
theorem d_W_rebuild_70 : decode b_W_rebuild 70 = .ok (.aload 4, 2) := by decide +kernel
theorem d_W_rebuild_72 : decode b_W_rebuild 72 = .ok (.getfield 73, 3) := by decide +kernel
theorem d_W_rebuild_75 : decode b_W_rebuild 75 = .ok (.ifCond .ne 12, 3) := by decide +kernel
theorem d_W_rebuild_78 : decode b_W_rebuild 78 = .ok (.aload_n 0, 1) := by decide +kernel
theorem d_W_rebuild_79 : decode b_W_rebuild 79 = .ok (.aload 4, 2) := by decide +kernel
theorem d_W_rebuild_81 : decode b_W_rebuild 81 = .ok (.invokevirtual 103, 3) := by decide +kernel
theorem d_W_rebuild_84 : decode b_W_rebuild 84 = .ok (.goto 17, 3) := by decide +kernel
theorem d_W_rebuild_87 : decode b_W_rebuild 87 = .ok (.aload 4, 2) := by decide +kernel
theorem d_W_rebuild_89 : decode b_W_rebuild 89 = .ok (.invokevirtual 66, 3) := by decide +kernel
theorem d_W_rebuild_92 : decode b_W_rebuild 92 = .ok (.ifCond .ne 9, 3) := by decide +kernel
theorem d_W_rebuild_95 : decode b_W_rebuild 95 = .ok (.aload_n 0, 1) := by decide +kernel
theorem d_W_rebuild_96 : decode b_W_rebuild 96 = .ok (.aload 4, 2) := by decide +kernel
theorem d_W_rebuild_98 : decode b_W_rebuild 98 = .ok (.putfield 62, 3) := by decide +kernel
theorem d_W_rebuild_101 : decode b_W_rebuild 101 = .ok (.iconst 0, 1) := by decide +kernel
theorem d_W_rebuild_102 : decode b_W_rebuild 102 = .ok (.istore 5, 2) := by decide +kernel
theorem d_W_rebuild_104 : decode b_W_rebuild 104 = .ok (.iload 5, 2) := by decide +kernel
theorem d_W_rebuild_106 : decode b_W_rebuild 106 = .ok (.aload 4, 2) := by decide +kernel
theorem d_W_rebuild_108 : decode b_W_rebuild 108 = .ok (.getfield 73, 3) := by decide +kernel
theorem d_W_rebuild_111 : decode b_W_rebuild 111 = .ok (.if_icmp .ge 91, 3) := by decide +kernel
theorem d_W_rebuild_114 : decode b_W_rebuild 114 = .ok (.aload_n 0, 1) := by decide +kernel
theorem d_W_rebuild_115 : decode b_W_rebuild 115 = .ok (.aload_n 0, 1) := by decide +kernel
theorem d_W_rebuild_116 : decode b_W_rebuild 116 = .ok (.getfield 90, 3) := by decide +kernel
theorem d_W_rebuild_119 : decode b_W_rebuild 119 = .ok (.aload 4, 2) := by decide +kernel
theorem d_W_rebuild_121 : decode b_W_rebuild 121 = .ok (.getfield 87, 3) := by decide +kernel
theorem d_W_rebuild_124 : decode b_W_rebuild 124 = .ok (.iload 5, 2) := by decide +kernel
theorem d_W_rebuild_126 : decode b_W_rebuild 126 = .ok (.iaload, 1) := by decide +kernel
theorem d_W_rebuild_127 : decode b_W_rebuild 127 = .ok (.iconst 1, 1) := by decide +kernel
theorem d_W_rebuild_128 : decode b_W_rebuild 128 = .ok (.iadd, 1) := by decide +kernel
theorem d_W_rebuild_129 : decode b_W_rebuild 129 = .ok (.invokestatic 138, 3) := by decide +kernel
theorem d_W_rebuild_132 : decode b_W_rebuild 132 = .ok (.putfield 90, 3) := by decide +kernel
theorem d_W_rebuild_135 : decode b_W_rebuild 135 = .ok (.aload 4, 2) := by decide +kernel
theorem d_W_rebuild_137 : decode b_W_rebuild 137 = .ok (.getfield 76, 3) := by decide +kernel
theorem d_W_rebuild_140 : decode b_W_rebuild 140 = .ok (.iload 5, 2) := by decide +kernel
theorem d_W_rebuild_142 : decode b_W_rebuild 142 = .ok (.baload, 1) := by decide +kernel
theorem d_W_rebuild_143 : decode b_W_rebuild 143 = .ok (.istore 6, 2) := by decide +kernel
theorem d_W_rebuild_145 : decode b_W_rebuild 145 = .ok (.aload_n 0, 1) := by decide +kernel
theorem d_W_rebuild_146 : decode b_W_rebuild 146 = .ok (.getfield 42, 3) := by decide +kernel
theorem d_W_rebuild_149 : decode b_W_rebuild 149 = .ok (.iload 6, 2) := by decide +kernel
theorem d_W_rebuild_151 : decode b_W_rebuild 151 = .ok (.baload, 1) := by decide +kernel
theorem d_W_rebuild_152 : decode b_W_rebuild 152 = .ok (.iconst (-1), 1) := by decide +kernel
theorem d_W_rebuild_153 : decode b_W_rebuild 153 = .ok (.if_icmp .eq 28, 3) := by decide +kernel
theorem d_W_rebuild_156 : decode b_W_rebuild 156 = .ok (.aload_n 0, 1) := by decide +kernel
theorem d_W_rebuild_157 : decode b_W_rebuild 157 = .ok (.aload_n 0, 1) := by decide +kernel
theorem d_W_rebuild_158 : decode b_W_rebuild 158 = .ok (.getfield 42, 3) := by decide +kernel
theorem d_W_rebuild_161 : decode b_W_rebuild 161 = .ok (.iload 6, 2) := by decide +kernel
theorem d_W_rebuild_163 : decode b_W_rebuild 163 = .ok (.baload, 1) := by decide +kernel
theorem d_W_rebuild_164 : decode b_W_rebuild 164 = .ok (.invokevirtual 144, 3) := by decide +kernel
theorem d_W_rebuild_167 : decode b_W_rebuild 167 = .ok (.aload 4, 2) := by decide +kernel
theorem d_W_rebuild_169 : decode b_W_rebuild 169 = .ok (.getfield 87, 3) := by decide +kernel
theorem d_W_rebuild_172 : decode b_W_rebuild 172 = .ok (.iload 5, 2) := by decide +kernel
theorem d_W_rebuild_174 : decode b_W_rebuild 174 = .ok (.iaload, 1) := by decide +kernel
theorem d_W_rebuild_175 : decode b_W_rebuild 175 = .ok (.if_icmp .le 6, 3) := by decide +kernel
theorem d_W_rebuild_178 : decode b_W_rebuild 178 = .ok (.goto 18, 3) := by decide +kernel
theorem d_W_rebuild_181 : decode b_W_rebuild 181 = .ok (.aload_n 0, 1) := by decide +kernel
theorem d_W_rebuild_182 : decode b_W_rebuild 182 = .ok (.getfield 42, 3) := by decide +kernel
theorem d_W_rebuild_185 : decode b_W_rebuild 185 = .ok (.iload 6, 2) := by decide +kernel
theorem d_W_rebuild_187 : decode b_W_rebuild 187 = .ok (.aload 4, 2) := by decide +kernel
theorem d_W_rebuild_189 : decode b_W_rebuild 189 = .ok (.iload 5, 2) := by decide +kernel
theorem d_W_rebuild_191 : decode b_W_rebuild 191 = .ok (.invokevirtual 96, 3) := by decide +kernel
theorem d_W_rebuild_194 : decode b_W_rebuild 194 = .ok (.i2b, 1) := by decide +kernel
theorem d_W_rebuild_195 : decode b_W_rebuild 195 = .ok (.bastore, 1) := by decide +kernel
theorem d_W_rebuild_196 : decode b_W_rebuild 196 = .ok (.iinc 5 1, 3) := by decide +kernel
theorem d_W_rebuild_199 : decode b_W_rebuild 199 = .ok (.goto (-95), 3) := by decide +kernel
theorem d_W_rebuild_202 : decode b_W_rebuild 202 = .ok (.iinc 3 1, 3) := by decide +kernel
theorem d_W_rebuild_205 : decode b_W_rebuild 205 = .ok (.goto (-151), 3) := by decide +kernel
theorem d_W_rebuild_208 : decode b_W_rebuild 208 = .ok (.aload_n 0, 1) := by decide +kernel
theorem d_W_rebuild_209 : decode b_W_rebuild 209 = .ok (.getfield 42, 3) := by decide +kernel
theorem d_W_rebuild_212 : decode b_W_rebuild 212 = .ok (.astore_n 1, 1) := by decide +kernel
theorem d_W_rebuild_213 : decode b_W_rebuild 213 = .ok (.aload_n 1, 1) := by decide +kernel
theorem d_W_rebuild_214 : decode b_W_rebuild 214 = .ok (.arraylength, 1) := by decide +kernel
theorem d_W_rebuild_215 : decode b_W_rebuild 215 = .ok (.istore_n 2, 1) := by decide +kernel
theorem d_W_rebuild_216 : decode b_W_rebuild 216 = .ok (.iconst 0, 1) := by decide +kernel
theorem d_W_rebuild_217 : decode b_W_rebuild 217 = .ok (.istore_n 3, 1) := by decide +kernel
theorem d_W_rebuild_218 : decode b_W_rebuild 218 = .ok (.iload_n 3, 1) := by decide +kernel
theorem d_W_rebuild_219 : decode b_W_rebuild 219 = .ok (.iload_n 2, 1) := by decide +kernel
theorem d_W_rebuild_220 : decode b_W_rebuild 220 = .ok (.if_icmp .ge 38, 3) := by decide +kernel
theorem d_W_rebuild_223 : decode b_W_rebuild 223 = .ok (.aload_n 1, 1) := by decide +kernel
theorem d_W_rebuild_224 : decode b_W_rebuild 224 = .ok (.iload_n 3, 1) := by decide +kernel
theorem d_W_rebuild_225 : decode b_W_rebuild 225 = .ok (.baload, 1) := by decide +kernel
theorem d_W_rebuild_226 : decode b_W_rebuild 226 = .ok (.istore 4, 2) := by decide +kernel
theorem d_W_rebuild_228 : decode b_W_rebuild 228 = .ok (.iload 4, 2) := by decide +kernel
theorem d_W_rebuild_230 : decode b_W_rebuild 230 = .ok (.iconst (-1), 1) := by decide +kernel
theorem d_W_rebuild_231 : decode b_W_rebuild 231 = .ok (.if_icmp .eq 21, 3) := by decide +kernel
theorem d_W_rebuild_234 : decode b_W_rebuild 234 = .ok (.aload_n 0, 1) := by decide +kernel
theorem d_W_rebuild_235 : decode b_W_rebuild 235 = .ok (.getfield 35, 3) := by decide +kernel
theorem d_W_rebuild_238 : decode b_W_rebuild 238 = .ok (.iload 4, 2) := by decide +kernel
theorem d_W_rebuild_240 : decode b_W_rebuild 240 = .ok (.iconst 4, 1) := by decide +kernel
theorem d_W_rebuild_241 : decode b_W_rebuild 241 = .ok (.idiv, 1) := by decide +kernel
theorem d_W_rebuild_242 : decode b_W_rebuild 242 = .ok (.aaload, 1) := by decide +kernel
theorem d_W_rebuild_243 : decode b_W_rebuild 243 = .ok (.dup, 1) := by decide +kernel
theorem d_W_rebuild_244 : decode b_W_rebuild 244 = .ok (.getfield 93, 3) := by decide +kernel
theorem d_W_rebuild_247 : decode b_W_rebuild 247 = .ok (.iconst 1, 1) := by decide +kernel
theorem d_W_rebuild_248 : decode b_W_rebuild 248 = .ok (.iadd, 1) := by decide +kernel
theorem d_W_rebuild_249 : decode b_W_rebuild 249 = .ok (.putfield 93, 3) := by decide +kernel
theorem d_W_rebuild_252 : decode b_W_rebuild 252 = .ok (.iinc 3 1, 3) := by decide +kernel
theorem d_W_rebuild_255 : decode b_W_rebuild 255 = .ok (.goto (-37), 3) := by decide +kernel
theorem d_W_rebuild_258 : decode b_W_rebuild 258 = .ok (.return_, 1) := by decide +kernel
theorem d_W_push_0 : decode b_W_push 0 = .ok (.aload_n 0, 1) := by decide +kernel
theorem d_W_push_1 : decode b_W_push 1 = .ok (.dup, 1) := by decide +kernel
theorem d_W_push_2 : decode b_W_push 2 = .ok (.getfield 49, 3) := by decide +kernel
theorem d_W_push_5 : decode b_W_push 5 = .ok (.dup_x1, 1) := by decide +kernel
theorem d_W_push_6 : decode b_W_push 6 = .ok (.iconst 1, 1) := by decide +kernel
theorem d_W_push_7 : decode b_W_push 7 = .ok (.iadd, 1) := by decide +kernel
theorem d_W_push_8 : decode b_W_push 8 = .ok (.putfield 49, 3) := by decide +kernel
theorem d_W_push_11 : decode b_W_push 11 = .ok (.istore_n 2, 1) := by decide +kernel
theorem d_W_push_12 : decode b_W_push 12 = .ok (.iload_n 2, 1) := by decide +kernel
theorem d_W_push_13 : decode b_W_push 13 = .ok (.ifCond .le 45, 3) := by decide +kernel
theorem d_W_push_16 : decode b_W_push 16 = .ok (.aload_n 1, 1) := by decide +kernel
theorem d_W_push_17 : decode b_W_push 17 = .ok (.aload_n 0, 1) := by decide +kernel
theorem d_W_push_18 : decode b_W_push 18 = .ok (.getfield 39, 3) := by decide +kernel
theorem d_W_push_21 : decode b_W_push 21 = .ok (.iload_n 2, 1) := by decide +kernel
theorem d_W_push_22 : decode b_W_push 22 = .ok (.iconst 1, 1) := by decide +kernel
theorem d_W_push_23 : decode b_W_push 23 = .ok (.isub, 1) := by decide +kernel
theorem d_W_push_24 : decode b_W_push 24 = .ok (.iconst 2, 1) := by decide +kernel
theorem d_W_push_25 : decode b_W_push 25 = .ok (.idiv, 1) := by decide +kernel
theorem d_W_push_26 : decode b_W_push 26 = .ok (.aaload, 1) := by decide +kernel
theorem d_W_push_27 : decode b_W_push 27 = .ok (.invokevirtual 52, 3) := by decide +kernel
theorem d_W_push_30 : decode b_W_push 30 = .ok (.ifCond .ge 28, 3) := by decide +kernel
theorem d_W_push_33 : decode b_W_push 33 = .ok (.aload_n 0, 1) := by decide +kernel
theorem d_W_push_34 : decode b_W_push 34 = .ok (.getfield 39, 3) := by decide +kernel
theorem d_W_push_37 : decode b_W_push 37 = .ok (.iload_n 2, 1) := by decide +kernel
theorem d_W_push_38 : decode b_W_push 38 = .ok (.aload_n 0, 1) := by decide +kernel
theorem d_W_push_39 : decode b_W_push 39 = .ok (.getfield 39, 3) := by decide +kernel
theorem d_W_push_42 : decode b_W_push 42 = .ok (.iload_n 2, 1) := by decide +kernel
theorem d_W_push_43 : decode b_W_push 43 = .ok (.iconst 1, 1) := by decide +kernel
theorem d_W_push_44 : decode b_W_push 44 = .ok (.isub, 1) := by decide +kernel
theorem d_W_push_45 : decode b_W_push 45 = .ok (.iconst 2, 1) := by decide +kernel
theorem d_W_push_46 : decode b_W_push 46 = .ok (.idiv, 1) := by decide +kernel
theorem d_W_push_47 : decode b_W_push 47 = .ok (.aaload, 1) := by decide +kernel
theorem d_W_push_48 : decode b_W_push 48 = .ok (.aastore, 1) := by decide +kernel
theorem d_W_push_49 : decode b_W_push 49 = .ok (.iload_n 2, 1) := by decide +kernel
theorem d_W_push_50 : decode b_W_push 50 = .ok (.iconst 1, 1) := by decide +kernel
theorem d_W_push_51 : decode b_W_push 51 = .ok (.isub, 1) := by decide +kernel
theorem d_W_push_52 : decode b_W_push 52 = .ok (.iconst 2, 1) := by decide +kernel
theorem d_W_push_53 : decode b_W_push 53 = .ok (.idiv, 1) := by decide +kernel
theorem d_W_push_54 : decode b_W_push 54 = .ok (.istore_n 2, 1) := by decide +kernel
theorem d_W_push_55 : decode b_W_push 55 = .ok (.goto (-43), 3) := by decide +kernel
theorem d_W_push_58 : decode b_W_push 58 = .ok (.aload_n 0, 1) := by decide +kernel
theorem d_W_push_59 : decode b_W_push 59 = .ok (.getfield 39, 3) := by decide +kernel
theorem d_W_push_62 : decode b_W_push 62 = .ok (.iload_n 2, 1) := by decide +kernel
theorem d_W_push_63 : decode b_W_push 63 = .ok (.aload_n 1, 1) := by decide +kernel
theorem d_W_push_64 : decode b_W_push 64 = .ok (.aastore, 1) := by decide +kernel
theorem d_W_push_65 : decode b_W_push 65 = .ok (.return_, 1) := by decide +kernel
theorem d_B_cmp_0 : decode b_B_cmp 0 = .ok (.aload_n 0, 1) := by decide +kernel
theorem d_B_cmp_1 : decode b_B_cmp 1 = .ok (.getfield 30, 3) := by decide +kernel
theorem d_B_cmp_4 : decode b_B_cmp 4 = .ok (.aload_n 1, 1) := by decide +kernel
theorem d_B_cmp_5 : decode b_B_cmp 5 = .ok (.getfield 30, 3) := by decide +kernel
theorem d_B_cmp_8 : decode b_B_cmp 8 = .ok (.if_icmp .eq 17, 3) := by decide +kernel
theorem d_B_cmp_11 : decode b_B_cmp 11 = .ok (.aload_n 0, 1) := by decide +kernel
theorem d_B_cmp_12 : decode b_B_cmp 12 = .ok (.getfield 30, 3) := by decide +kernel
theorem d_B_cmp_15 : decode b_B_cmp 15 = .ok (.aload_n 1, 1) := by decide +kernel
theorem d_B_cmp_16 : decode b_B_cmp 16 = .ok (.getfield 30, 3) := by decide +kernel
theorem d_B_cmp_19 : decode b_B_cmp 19 = .ok (.invokestatic 33, 3) := by decide +kernel
theorem d_B_cmp_22 : decode b_B_cmp 22 = .ok (.goto 14, 3) := by decide +kernel
theorem d_B_cmp_25 : decode b_B_cmp 25 = .ok (.aload_n 0, 1) := by decide +kernel
theorem d_B_cmp_26 : decode b_B_cmp 26 = .ok (.getfield 26, 3) := by decide +kernel
theorem d_B_cmp_29 : decode b_B_cmp 29 = .ok (.aload_n 1, 1) := by decide +kernel
theorem d_B_cmp_30 : decode b_B_cmp 30 = .ok (.getfield 26, 3) := by decide +kernel
theorem d_B_cmp_33 : decode b_B_cmp 33 = .ok (.invokestatic 33, 3) := by decide +kernel
theorem d_B_cmp_36 : decode b_B_cmp 36 = .ok (.ireturn, 1) := by decide +kernel
theorem d_J_compare_0 : decode b_J_compare 0 = .ok (.iload_n 0, 1) := by decide +kernel
theorem d_J_compare_1 : decode b_J_compare 1 = .ok (.iload_n 1, 1) := by decide +kernel
theorem d_J_compare_2 : decode b_J_compare 2 = .ok (.if_icmp .ge 7, 3) := by decide +kernel
theorem d_J_compare_5 : decode b_J_compare 5 = .ok (.iconst (-1), 1) := by decide +kernel
theorem d_J_compare_6 : decode b_J_compare 6 = .ok (.goto 13, 3) := by decide +kernel
theorem d_J_compare_9 : decode b_J_compare 9 = .ok (.iload_n 0, 1) := by decide +kernel
theorem d_J_compare_10 : decode b_J_compare 10 = .ok (.iload_n 1, 1) := by decide +kernel
theorem d_J_compare_11 : decode b_J_compare 11 = .ok (.if_icmp .ne 7, 3) := by decide +kernel
theorem d_J_compare_14 : decode b_J_compare 14 = .ok (.iconst 0, 1) := by decide +kernel
theorem d_J_compare_15 : decode b_J_compare 15 = .ok (.goto 4, 3) := by decide +kernel
theorem d_J_compare_18 : decode b_J_compare 18 = .ok (.iconst 1, 1) := by decide +kernel
theorem d_J_compare_19 : decode b_J_compare 19 = .ok (.ireturn, 1) := by decide +kernel
theorem d_B_isFull_0 : decode b_B_isFull 0 = .ok (.aload_n 0, 1) := by decide +kernel
theorem d_B_isFull_1 : decode b_B_isFull 1 = .ok (.getfield 39, 3) := by decide +kernel
theorem d_B_isFull_4 : decode b_B_isFull 4 = .ok (.iconst 4, 1) := by decide +kernel
theorem d_B_isFull_5 : decode b_B_isFull 5 = .ok (.if_icmp .ne 7, 3) := by decide +kernel
theorem d_B_isFull_8 : decode b_B_isFull 8 = .ok (.iconst 1, 1) := by decide +kernel
theorem d_B_isFull_9 : decode b_B_isFull 9 = .ok (.goto 4, 3) := by decide +kernel
theorem d_B_isFull_12 : decode b_B_isFull 12 = .ok (.iconst 0, 1) := by decide +kernel
theorem d_B_isFull_13 : decode b_B_isFull 13 = .ok (.ireturn, 1) := by decide +kernel
theorem d_J_max_0 : decode b_J_max 0 = .ok (.iload_n 0, 1) := by decide +kernel
theorem d_J_max_1 : decode b_J_max 1 = .ok (.iload_n 1, 1) := by decide +kernel
theorem d_J_max_2 : decode b_J_max 2 = .ok (.if_icmp .lt 7, 3) := by decide +kernel
theorem d_J_max_5 : decode b_J_max 5 = .ok (.iload_n 0, 1) := by decide +kernel
theorem d_J_max_6 : decode b_J_max 6 = .ok (.goto 4, 3) := by decide +kernel
theorem d_J_max_9 : decode b_J_max 9 = .ok (.iload_n 1, 1) := by decide +kernel
theorem d_J_max_10 : decode b_J_max 10 = .ok (.ireturn, 1) := by decide +kernel
theorem d_W_serialAt_0 : decode b_W_serialAt 0 = .ok (.aload_n 0, 1) := by decide +kernel
theorem d_W_serialAt_1 : decode b_W_serialAt 1 = .ok (.getfield 35, 3) := by decide +kernel
theorem d_W_serialAt_4 : decode b_W_serialAt 4 = .ok (.iload_n 1, 1) := by decide +kernel
theorem d_W_serialAt_5 : decode b_W_serialAt 5 = .ok (.iconst 4, 1) := by decide +kernel
theorem d_W_serialAt_6 : decode b_W_serialAt 6 = .ok (.idiv, 1) := by decide +kernel
theorem d_W_serialAt_7 : decode b_W_serialAt 7 = .ok (.aaload, 1) := by decide +kernel
theorem d_W_serialAt_8 : decode b_W_serialAt 8 = .ok (.getfield 87, 3) := by decide +kernel
theorem d_W_serialAt_11 : decode b_W_serialAt 11 = .ok (.iload_n 1, 1) := by decide +kernel
theorem d_W_serialAt_12 : decode b_W_serialAt 12 = .ok (.iconst 4, 1) := by decide +kernel
theorem d_W_serialAt_13 : decode b_W_serialAt 13 = .ok (.irem, 1) := by decide +kernel
theorem d_W_serialAt_14 : decode b_W_serialAt 14 = .ok (.iaload, 1) := by decide +kernel
theorem d_W_serialAt_15 : decode b_W_serialAt 15 = .ok (.ireturn, 1) := by decide +kernel
theorem d_B_place_0 : decode b_B_place 0 = .ok (.iconst 4, 1) := by decide +kernel
theorem d_B_place_1 : decode b_B_place 1 = .ok (.aload_n 0, 1) := by decide +kernel
theorem d_B_place_2 : decode b_B_place 2 = .ok (.getfield 26, 3) := by decide +kernel
theorem d_B_place_5 : decode b_B_place 5 = .ok (.imul, 1) := by decide +kernel
theorem d_B_place_6 : decode b_B_place 6 = .ok (.iload_n 1, 1) := by decide +kernel
theorem d_B_place_7 : decode b_B_place 7 = .ok (.iadd, 1) := by decide +kernel
theorem d_B_place_8 : decode b_B_place 8 = .ok (.ireturn, 1) := by decide +kernel
theorem d_W_collect_0 : decode b_W_collect 0 = .ok (.aconst_null, 1) := by decide +kernel
theorem d_W_collect_1 : decode b_W_collect 1 = .ok (.astore_n 2, 1) := by decide +kernel
theorem d_W_collect_2 : decode b_W_collect 2 = .ok (.aload_n 0, 1) := by decide +kernel
theorem d_W_collect_3 : decode b_W_collect 3 = .ok (.getfield 35, 3) := by decide +kernel
theorem d_W_collect_6 : decode b_W_collect 6 = .ok (.astore_n 3, 1) := by decide +kernel
theorem d_W_collect_7 : decode b_W_collect 7 = .ok (.aload_n 3, 1) := by decide +kernel
theorem d_W_collect_8 : decode b_W_collect 8 = .ok (.arraylength, 1) := by decide +kernel
theorem d_W_collect_9 : decode b_W_collect 9 = .ok (.istore 4, 2) := by decide +kernel
theorem d_W_collect_11 : decode b_W_collect 11 = .ok (.iconst 0, 1) := by decide +kernel
theorem d_W_collect_12 : decode b_W_collect 12 = .ok (.istore 5, 2) := by decide +kernel
theorem d_W_collect_14 : decode b_W_collect 14 = .ok (.iload 5, 2) := by decide +kernel
theorem d_W_collect_16 : decode b_W_collect 16 = .ok (.iload 4, 2) := by decide +kernel
theorem d_W_collect_18 : decode b_W_collect 18 = .ok (.if_icmp .ge 42, 3) := by decide +kernel
theorem d_W_collect_21 : decode b_W_collect 21 = .ok (.aload_n 3, 1) := by decide +kernel
theorem d_W_collect_22 : decode b_W_collect 22 = .ok (.iload 5, 2) := by decide +kernel
theorem d_W_collect_24 : decode b_W_collect 24 = .ok (.aaload, 1) := by decide +kernel
theorem d_W_collect_25 : decode b_W_collect 25 = .ok (.astore 6, 2) := by decide +kernel
theorem d_W_collect_27 : decode b_W_collect 27 = .ok (.aload 6, 2) := by decide +kernel
theorem d_W_collect_29 : decode b_W_collect 29 = .ok (.invokevirtual 66, 3) := by decide +kernel
theorem d_W_collect_32 : decode b_W_collect 32 = .ok (.ifCond .eq 22, 3) := by decide +kernel
theorem d_W_collect_35 : decode b_W_collect 35 = .ok (.aload_n 2, 1) := by decide +kernel
theorem d_W_collect_36 : decode b_W_collect 36 = .ok (.ifnull 15, 3) := by decide +kernel
theorem d_W_collect_39 : decode b_W_collect 39 = .ok (.aload_n 1, 1) := by decide +kernel
theorem d_W_collect_40 : decode b_W_collect 40 = .ok (.aload 6, 2) := by decide +kernel
theorem d_W_collect_42 : decode b_W_collect 42 = .ok (.aload_n 2, 1) := by decide +kernel
theorem d_W_collect_43 : decode b_W_collect 43 = .ok (.invokeinterface 107 3, 5) := by decide +kernel
theorem d_W_collect_48 : decode b_W_collect 48 = .ok (.ifCond .eq 6, 3) := by decide +kernel
theorem d_W_collect_51 : decode b_W_collect 51 = .ok (.aload 6, 2) := by decide +kernel
theorem d_W_collect_53 : decode b_W_collect 53 = .ok (.astore_n 2, 1) := by decide +kernel
theorem d_W_collect_54 : decode b_W_collect 54 = .ok (.iinc 5 1, 3) := by decide +kernel
theorem d_W_collect_57 : decode b_W_collect 57 = .ok (.goto (-43), 3) := by decide +kernel
theorem d_W_collect_60 : decode b_W_collect 60 = .ok (.aload_n 2, 1) := by decide +kernel
theorem d_W_collect_61 : decode b_W_collect 61 = .ok (.ifnonnull 5, 3) := by decide +kernel
theorem d_W_collect_64 : decode b_W_collect 64 = .ok (.iconst 1, 1) := by decide +kernel
theorem d_W_collect_65 : decode b_W_collect 65 = .ok (.ireturn, 1) := by decide +kernel
theorem d_W_collect_66 : decode b_W_collect 66 = .ok (.iconst 0, 1) := by decide +kernel
theorem d_W_collect_67 : decode b_W_collect 67 = .ok (.istore_n 3, 1) := by decide +kernel
theorem d_W_collect_68 : decode b_W_collect 68 = .ok (.iload_n 3, 1) := by decide +kernel
theorem d_W_collect_69 : decode b_W_collect 69 = .ok (.iconst 4, 1) := by decide +kernel
theorem d_W_collect_70 : decode b_W_collect 70 = .ok (.if_icmp .ge 55, 3) := by decide +kernel
theorem d_W_collect_73 : decode b_W_collect 73 = .ok (.aload_n 2, 1) := by decide +kernel
theorem d_W_collect_74 : decode b_W_collect 74 = .ok (.getfield 76, 3) := by decide +kernel
theorem d_W_collect_77 : decode b_W_collect 77 = .ok (.iload_n 3, 1) := by decide +kernel
theorem d_W_collect_78 : decode b_W_collect 78 = .ok (.baload, 1) := by decide +kernel
theorem d_W_collect_79 : decode b_W_collect 79 = .ok (.istore 4, 2) := by decide +kernel
theorem d_W_collect_81 : decode b_W_collect 81 = .ok (.aload_n 0, 1) := by decide +kernel
theorem d_W_collect_82 : decode b_W_collect 82 = .ok (.getfield 42, 3) := by decide +kernel
theorem d_W_collect_85 : decode b_W_collect 85 = .ok (.iload 4, 2) := by decide +kernel
theorem d_W_collect_87 : decode b_W_collect 87 = .ok (.baload, 1) := by decide +kernel
theorem d_W_collect_88 : decode b_W_collect 88 = .ok (.aload_n 2, 1) := by decide +kernel
theorem d_W_collect_89 : decode b_W_collect 89 = .ok (.iload_n 3, 1) := by decide +kernel
theorem d_W_collect_90 : decode b_W_collect 90 = .ok (.invokevirtual 96, 3) := by decide +kernel
theorem d_W_collect_93 : decode b_W_collect 93 = .ok (.if_icmp .ne 26, 3) := by decide +kernel
theorem d_W_collect_96 : decode b_W_collect 96 = .ok (.aload_n 0, 1) := by decide +kernel
theorem d_W_collect_97 : decode b_W_collect 97 = .ok (.iload 4, 2) := by decide +kernel
theorem d_W_collect_99 : decode b_W_collect 99 = .ok (.aload_n 2, 1) := by decide +kernel
theorem d_W_collect_100 : decode b_W_collect 100 = .ok (.getfield 79, 3) := by decide +kernel
theorem d_W_collect_103 : decode b_W_collect 103 = .ok (.iload_n 3, 1) := by decide +kernel
theorem d_W_collect_104 : decode b_W_collect 104 = .ok (.iaload, 1) := by decide +kernel
theorem d_W_collect_105 : decode b_W_collect 105 = .ok (.aload_n 2, 1) := by decide +kernel
theorem d_W_collect_106 : decode b_W_collect 106 = .ok (.getfield 83, 3) := by decide +kernel
theorem d_W_collect_109 : decode b_W_collect 109 = .ok (.iload_n 3, 1) := by decide +kernel
theorem d_W_collect_110 : decode b_W_collect 110 = .ok (.baload, 1) := by decide +kernel
theorem d_W_collect_111 : decode b_W_collect 111 = .ok (.invokevirtual 113, 3) := by decide +kernel
theorem d_W_collect_114 : decode b_W_collect 114 = .ok (.ifCond .ne 5, 3) := by decide +kernel
theorem d_W_collect_117 : decode b_W_collect 117 = .ok (.iconst 0, 1) := by decide +kernel
theorem d_W_collect_118 : decode b_W_collect 118 = .ok (.ireturn, 1) := by decide +kernel
theorem d_W_collect_119 : decode b_W_collect 119 = .ok (.iinc 3 1, 3) := by decide +kernel
theorem d_W_collect_122 : decode b_W_collect 122 = .ok (.goto (-54), 3) := by decide +kernel
theorem d_W_collect_125 : decode b_W_collect 125 = .ok (.aload_n 0, 1) := by decide +kernel
theorem d_W_collect_126 : decode b_W_collect 126 = .ok (.aload_n 2, 1) := by decide +kernel
theorem d_W_collect_127 : decode b_W_collect 127 = .ok (.invokevirtual 117, 3) := by decide +kernel
theorem d_W_collect_130 : decode b_W_collect 130 = .ok (.ireturn, 1) := by decide +kernel
theorem d_G_prefers_0 : decode b_G_prefers 0 = .ok (.aload_n 1, 1) := by decide +kernel
theorem d_G_prefers_1 : decode b_G_prefers 1 = .ok (.getfield 7, 3) := by decide +kernel
theorem d_G_prefers_4 : decode b_G_prefers 4 = .ok (.aload_n 2, 1) := by decide +kernel
theorem d_G_prefers_5 : decode b_G_prefers 5 = .ok (.getfield 7, 3) := by decide +kernel
theorem d_G_prefers_8 : decode b_G_prefers 8 = .ok (.if_icmp .eq 22, 3) := by decide +kernel
theorem d_G_prefers_11 : decode b_G_prefers 11 = .ok (.aload_n 1, 1) := by decide +kernel
theorem d_G_prefers_12 : decode b_G_prefers 12 = .ok (.getfield 7, 3) := by decide +kernel
theorem d_G_prefers_15 : decode b_G_prefers 15 = .ok (.aload_n 2, 1) := by decide +kernel
theorem d_G_prefers_16 : decode b_G_prefers 16 = .ok (.getfield 7, 3) := by decide +kernel
theorem d_G_prefers_19 : decode b_G_prefers 19 = .ok (.if_icmp .ge 7, 3) := by decide +kernel
theorem d_G_prefers_22 : decode b_G_prefers 22 = .ok (.iconst 1, 1) := by decide +kernel
theorem d_G_prefers_23 : decode b_G_prefers 23 = .ok (.goto 20, 3) := by decide +kernel
theorem d_G_prefers_26 : decode b_G_prefers 26 = .ok (.iconst 0, 1) := by decide +kernel
theorem d_G_prefers_27 : decode b_G_prefers 27 = .ok (.goto 16, 3) := by decide +kernel
theorem d_G_prefers_30 : decode b_G_prefers 30 = .ok (.aload_n 1, 1) := by decide +kernel
theorem d_G_prefers_31 : decode b_G_prefers 31 = .ok (.aload_n 2, 1) := by decide +kernel
theorem d_G_prefers_32 : decode b_G_prefers 32 = .ok (.invokevirtual 13, 3) := by decide +kernel
theorem d_G_prefers_35 : decode b_G_prefers 35 = .ok (.ifCond .ge 7, 3) := by decide +kernel
theorem d_G_prefers_38 : decode b_G_prefers 38 = .ok (.iconst 1, 1) := by decide +kernel
theorem d_G_prefers_39 : decode b_G_prefers 39 = .ok (.goto 4, 3) := by decide +kernel
theorem d_G_prefers_42 : decode b_G_prefers 42 = .ok (.iconst 0, 1) := by decide +kernel
theorem d_G_prefers_43 : decode b_G_prefers 43 = .ok (.ireturn, 1) := by decide +kernel
theorem d_V_prefers_0 : decode b_V_prefers 0 = .ok (.aload_n 1, 1) := by decide +kernel
theorem d_V_prefers_1 : decode b_V_prefers 1 = .ok (.aload_n 2, 1) := by decide +kernel
theorem d_V_prefers_2 : decode b_V_prefers 2 = .ok (.invokevirtual 7, 3) := by decide +kernel
theorem d_V_prefers_5 : decode b_V_prefers 5 = .ok (.ifCond .ge 7, 3) := by decide +kernel
theorem d_V_prefers_8 : decode b_V_prefers 8 = .ok (.iconst 1, 1) := by decide +kernel
theorem d_V_prefers_9 : decode b_V_prefers 9 = .ok (.goto 4, 3) := by decide +kernel
theorem d_V_prefers_12 : decode b_V_prefers 12 = .ok (.iconst 0, 1) := by decide +kernel
theorem d_V_prefers_13 : decode b_V_prefers 13 = .ok (.ireturn, 1) := by decide +kernel
theorem d_W_program_0 : decode b_W_program 0 = .ok (.aload_n 0, 1) := by decide +kernel
theorem d_W_program_1 : decode b_W_program 1 = .ok (.getfield 62, 3) := by decide +kernel
theorem d_W_program_4 : decode b_W_program 4 = .ok (.ifnull 20, 3) := by decide +kernel
theorem d_W_program_7 : decode b_W_program 7 = .ok (.aload_n 0, 1) := by decide +kernel
theorem d_W_program_8 : decode b_W_program 8 = .ok (.getfield 62, 3) := by decide +kernel
theorem d_W_program_11 : decode b_W_program 11 = .ok (.invokevirtual 66, 3) := by decide +kernel
theorem d_W_program_14 : decode b_W_program 14 = .ok (.ifCond .ne 10, 3) := by decide +kernel
theorem d_W_program_17 : decode b_W_program 17 = .ok (.aload_n 0, 1) := by decide +kernel
theorem d_W_program_18 : decode b_W_program 18 = .ok (.invokevirtual 70, 3) := by decide +kernel
theorem d_W_program_21 : decode b_W_program 21 = .ok (.ifCond .ne 5, 3) := by decide +kernel
theorem d_W_program_24 : decode b_W_program 24 = .ok (.iconst 0, 1) := by decide +kernel
theorem d_W_program_25 : decode b_W_program 25 = .ok (.ireturn, 1) := by decide +kernel
theorem d_W_program_26 : decode b_W_program 26 = .ok (.aload_n 0, 1) := by decide +kernel
theorem d_W_program_27 : decode b_W_program 27 = .ok (.getfield 62, 3) := by decide +kernel
theorem d_W_program_30 : decode b_W_program 30 = .ok (.dup, 1) := by decide +kernel
theorem d_W_program_31 : decode b_W_program 31 = .ok (.getfield 73, 3) := by decide +kernel
theorem d_W_program_34 : decode b_W_program 34 = .ok (.dup_x1, 1) := by decide +kernel
theorem d_W_program_35 : decode b_W_program 35 = .ok (.iconst 1, 1) := by decide +kernel
theorem d_W_program_36 : decode b_W_program 36 = .ok (.iadd, 1) := by decide +kernel
theorem d_W_program_37 : decode b_W_program 37 = .ok (.putfield 73, 3) := by decide +kernel
theorem d_W_program_40 : decode b_W_program 40 = .ok (.istore 4, 2) := by decide +kernel
theorem d_W_program_42 : decode b_W_program 42 = .ok (.aload_n 0, 1) := by decide +kernel
theorem d_W_program_43 : decode b_W_program 43 = .ok (.getfield 62, 3) := by decide +kernel
theorem d_W_program_46 : decode b_W_program 46 = .ok (.getfield 76, 3) := by decide +kernel
theorem d_W_program_49 : decode b_W_program 49 = .ok (.iload 4, 2) := by decide +kernel
theorem d_W_program_51 : decode b_W_program 51 = .ok (.iload_n 1, 1) := by decide +kernel
theorem d_W_program_52 : decode b_W_program 52 = .ok (.i2b, 1) := by decide +kernel
theorem d_W_program_53 : decode b_W_program 53 = .ok (.bastore, 1) := by decide +kernel
theorem d_W_program_54 : decode b_W_program 54 = .ok (.aload_n 0, 1) := by decide +kernel
theorem d_W_program_55 : decode b_W_program 55 = .ok (.getfield 62, 3) := by decide +kernel
theorem d_W_program_58 : decode b_W_program 58 = .ok (.getfield 79, 3) := by decide +kernel
theorem d_W_program_61 : decode b_W_program 61 = .ok (.iload 4, 2) := by decide +kernel
theorem d_W_program_63 : decode b_W_program 63 = .ok (.iload_n 2, 1) := by decide +kernel
theorem d_W_program_64 : decode b_W_program 64 = .ok (.iastore, 1) := by decide +kernel
theorem d_W_program_65 : decode b_W_program 65 = .ok (.aload_n 0, 1) := by decide +kernel
theorem d_W_program_66 : decode b_W_program 66 = .ok (.getfield 62, 3) := by decide +kernel
theorem d_W_program_69 : decode b_W_program 69 = .ok (.getfield 83, 3) := by decide +kernel
theorem d_W_program_72 : decode b_W_program 72 = .ok (.iload 4, 2) := by decide +kernel
theorem d_W_program_74 : decode b_W_program 74 = .ok (.iload_n 3, 1) := by decide +kernel
theorem d_W_program_75 : decode b_W_program 75 = .ok (.bastore, 1) := by decide +kernel
theorem d_W_program_76 : decode b_W_program 76 = .ok (.aload_n 0, 1) := by decide +kernel
theorem d_W_program_77 : decode b_W_program 77 = .ok (.getfield 62, 3) := by decide +kernel
theorem d_W_program_80 : decode b_W_program 80 = .ok (.getfield 87, 3) := by decide +kernel
theorem d_W_program_83 : decode b_W_program 83 = .ok (.iload 4, 2) := by decide +kernel
theorem d_W_program_85 : decode b_W_program 85 = .ok (.aload_n 0, 1) := by decide +kernel
theorem d_W_program_86 : decode b_W_program 86 = .ok (.dup, 1) := by decide +kernel
theorem d_W_program_87 : decode b_W_program 87 = .ok (.getfield 90, 3) := by decide +kernel
theorem d_W_program_90 : decode b_W_program 90 = .ok (.dup_x1, 1) := by decide +kernel
theorem d_W_program_91 : decode b_W_program 91 = .ok (.iconst 1, 1) := by decide +kernel
theorem d_W_program_92 : decode b_W_program 92 = .ok (.iadd, 1) := by decide +kernel
theorem d_W_program_93 : decode b_W_program 93 = .ok (.putfield 90, 3) := by decide +kernel
theorem d_W_program_96 : decode b_W_program 96 = .ok (.iastore, 1) := by decide +kernel
theorem d_W_program_97 : decode b_W_program 97 = .ok (.aload_n 0, 1) := by decide +kernel
theorem d_W_program_98 : decode b_W_program 98 = .ok (.getfield 42, 3) := by decide +kernel
theorem d_W_program_101 : decode b_W_program 101 = .ok (.iload_n 1, 1) := by decide +kernel
theorem d_W_program_102 : decode b_W_program 102 = .ok (.baload, 1) := by decide +kernel
theorem d_W_program_103 : decode b_W_program 103 = .ok (.iconst (-1), 1) := by decide +kernel
theorem d_W_program_104 : decode b_W_program 104 = .ok (.if_icmp .eq 25, 3) := by decide +kernel
theorem d_W_program_107 : decode b_W_program 107 = .ok (.aload_n 0, 1) := by decide +kernel
theorem d_W_program_108 : decode b_W_program 108 = .ok (.getfield 35, 3) := by decide +kernel
theorem d_W_program_111 : decode b_W_program 111 = .ok (.aload_n 0, 1) := by decide +kernel
theorem d_W_program_112 : decode b_W_program 112 = .ok (.getfield 42, 3) := by decide +kernel
theorem d_W_program_115 : decode b_W_program 115 = .ok (.iload_n 1, 1) := by decide +kernel
theorem d_W_program_116 : decode b_W_program 116 = .ok (.baload, 1) := by decide +kernel
theorem d_W_program_117 : decode b_W_program 117 = .ok (.iconst 4, 1) := by decide +kernel
theorem d_W_program_118 : decode b_W_program 118 = .ok (.idiv, 1) := by decide +kernel
theorem d_W_program_119 : decode b_W_program 119 = .ok (.aaload, 1) := by decide +kernel
theorem d_W_program_120 : decode b_W_program 120 = .ok (.dup, 1) := by decide +kernel
theorem d_W_program_121 : decode b_W_program 121 = .ok (.getfield 93, 3) := by decide +kernel
theorem d_W_program_124 : decode b_W_program 124 = .ok (.iconst 1, 1) := by decide +kernel
theorem d_W_program_125 : decode b_W_program 125 = .ok (.isub, 1) := by decide +kernel
theorem d_W_program_126 : decode b_W_program 126 = .ok (.putfield 93, 3) := by decide +kernel
theorem d_W_program_129 : decode b_W_program 129 = .ok (.aload_n 0, 1) := by decide +kernel
theorem d_W_program_130 : decode b_W_program 130 = .ok (.getfield 42, 3) := by decide +kernel
theorem d_W_program_133 : decode b_W_program 133 = .ok (.iload_n 1, 1) := by decide +kernel
theorem d_W_program_134 : decode b_W_program 134 = .ok (.aload_n 0, 1) := by decide +kernel
theorem d_W_program_135 : decode b_W_program 135 = .ok (.getfield 62, 3) := by decide +kernel
theorem d_W_program_138 : decode b_W_program 138 = .ok (.iload 4, 2) := by decide +kernel
theorem d_W_program_140 : decode b_W_program 140 = .ok (.invokevirtual 96, 3) := by decide +kernel
theorem d_W_program_143 : decode b_W_program 143 = .ok (.i2b, 1) := by decide +kernel
theorem d_W_program_144 : decode b_W_program 144 = .ok (.bastore, 1) := by decide +kernel
theorem d_W_program_145 : decode b_W_program 145 = .ok (.aload_n 0, 1) := by decide +kernel
theorem d_W_program_146 : decode b_W_program 146 = .ok (.getfield 62, 3) := by decide +kernel
theorem d_W_program_149 : decode b_W_program 149 = .ok (.dup, 1) := by decide +kernel
theorem d_W_program_150 : decode b_W_program 150 = .ok (.getfield 93, 3) := by decide +kernel
theorem d_W_program_153 : decode b_W_program 153 = .ok (.iconst 1, 1) := by decide +kernel
theorem d_W_program_154 : decode b_W_program 154 = .ok (.iadd, 1) := by decide +kernel
theorem d_W_program_155 : decode b_W_program 155 = .ok (.putfield 93, 3) := by decide +kernel
theorem d_W_program_158 : decode b_W_program 158 = .ok (.iconst 1, 1) := by decide +kernel
theorem d_W_program_159 : decode b_W_program 159 = .ok (.ireturn, 1) := by decide +kernel
theorem d_W_operate_0 : decode b_W_operate 0 = .ok (.aload_n 0, 1) := by decide +kernel
theorem d_W_operate_1 : decode b_W_operate 1 = .ok (.getfield 56, 3) := by decide +kernel
theorem d_W_operate_4 : decode b_W_operate 4 = .ok (.ifCond .le 19, 3) := by decide +kernel
theorem d_W_operate_7 : decode b_W_operate 7 = .ok (.aload_n 0, 1) := by decide +kernel
theorem d_W_operate_8 : decode b_W_operate 8 = .ok (.dup, 1) := by decide +kernel
theorem d_W_operate_9 : decode b_W_operate 9 = .ok (.getfield 56, 3) := by decide +kernel
end
section
theorem d_W_operate_12 : decode b_W_operate 12 = .ok (.iconst 1, 1) := by decide +kernel
theorem d_W_operate_13 : decode b_W_operate 13 = .ok (.isub, 1) := by decide +kernel
theorem d_W_operate_14 : decode b_W_operate 14 = .ok (.dup_x1, 1) := by decide +kernel
theorem d_W_operate_15 : decode b_W_operate 15 = .ok (.putfield 56, 3) := by decide +kernel
theorem d_W_operate_18 : decode b_W_operate 18 = .ok (.ifCond .ne 5, 3) := by decide +kernel
theorem d_W_operate_21 : decode b_W_operate 21 = .ok (.iconst 0, 1) := by decide +kernel
theorem d_W_operate_22 : decode b_W_operate 22 = .ok (.ireturn, 1) := by decide +kernel
theorem d_W_operate_23 : decode b_W_operate 23 = .ok (.aload_n 0, 1) := by decide +kernel
theorem d_W_operate_24 : decode b_W_operate 24 = .ok (.dup, 1) := by decide +kernel
theorem d_W_operate_25 : decode b_W_operate 25 = .ok (.getfield 59, 3) := by decide +kernel
theorem d_W_operate_28 : decode b_W_operate 28 = .ok (.iconst 1, 1) := by decide +kernel
theorem d_W_operate_29 : decode b_W_operate 29 = .ok (.iadd, 1) := by decide +kernel
theorem d_W_operate_30 : decode b_W_operate 30 = .ok (.putfield 59, 3) := by decide +kernel
theorem d_W_operate_33 : decode b_W_operate 33 = .ok (.iconst 1, 1) := by decide +kernel
theorem d_W_operate_34 : decode b_W_operate 34 = .ok (.ireturn, 1) := by decide +kernel
theorem d_W_erase_0 : decode b_W_erase 0 = .ok (.aload_n 0, 1) := by decide +kernel
theorem d_W_erase_1 : decode b_W_erase 1 = .ok (.invokevirtual 70, 3) := by decide +kernel
theorem d_W_erase_4 : decode b_W_erase 4 = .ok (.ifCond .ne 5, 3) := by decide +kernel
theorem d_W_erase_7 : decode b_W_erase 7 = .ok (.iconst 0, 1) := by decide +kernel
theorem d_W_erase_8 : decode b_W_erase 8 = .ok (.ireturn, 1) := by decide +kernel
theorem d_W_erase_9 : decode b_W_erase 9 = .ok (.aload_n 1, 1) := by decide +kernel
theorem d_W_erase_10 : decode b_W_erase 10 = .ok (.iconst 0, 1) := by decide +kernel
theorem d_W_erase_11 : decode b_W_erase 11 = .ok (.putfield 73, 3) := by decide +kernel
theorem d_W_erase_14 : decode b_W_erase 14 = .ok (.aload_n 1, 1) := by decide +kernel
theorem d_W_erase_15 : decode b_W_erase 15 = .ok (.iconst 0, 1) := by decide +kernel
theorem d_W_erase_16 : decode b_W_erase 16 = .ok (.putfield 93, 3) := by decide +kernel
theorem d_W_erase_19 : decode b_W_erase 19 = .ok (.aload_n 1, 1) := by decide +kernel
theorem d_W_erase_20 : decode b_W_erase 20 = .ok (.dup, 1) := by decide +kernel
theorem d_W_erase_21 : decode b_W_erase 21 = .ok (.getfield 100, 3) := by decide +kernel
theorem d_W_erase_24 : decode b_W_erase 24 = .ok (.iconst 1, 1) := by decide +kernel
theorem d_W_erase_25 : decode b_W_erase 25 = .ok (.iadd, 1) := by decide +kernel
theorem d_W_erase_26 : decode b_W_erase 26 = .ok (.putfield 100, 3) := by decide +kernel
theorem d_W_erase_29 : decode b_W_erase 29 = .ok (.aload_n 0, 1) := by decide +kernel
theorem d_W_erase_30 : decode b_W_erase 30 = .ok (.aload_n 1, 1) := by decide +kernel
theorem d_W_erase_31 : decode b_W_erase 31 = .ok (.invokevirtual 103, 3) := by decide +kernel
theorem d_W_erase_34 : decode b_W_erase 34 = .ok (.iconst 1, 1) := by decide +kernel
theorem d_W_erase_35 : decode b_W_erase 35 = .ok (.ireturn, 1) := by decide +kernel
theorem d_W_fuse_0 : decode b_W_fuse 0 = .ok (.iload_n 1, 1) := by decide +kernel
theorem d_W_fuse_1 : decode b_W_fuse 1 = .ok (.ifCond .lt 10, 3) := by decide +kernel
theorem d_W_fuse_4 : decode b_W_fuse 4 = .ok (.iload_n 1, 1) := by decide +kernel
theorem d_W_fuse_5 : decode b_W_fuse 5 = .ok (.sipush 1000, 3) := by decide +kernel
theorem d_W_fuse_8 : decode b_W_fuse 8 = .ok (.if_icmp .le 5, 3) := by decide +kernel
theorem d_W_fuse_11 : decode b_W_fuse 11 = .ok (.iconst 0, 1) := by decide +kernel
theorem d_W_fuse_12 : decode b_W_fuse 12 = .ok (.ireturn, 1) := by decide +kernel
theorem d_W_fuse_13 : decode b_W_fuse 13 = .ok (.aload_n 0, 1) := by decide +kernel
theorem d_W_fuse_14 : decode b_W_fuse 14 = .ok (.iload_n 1, 1) := by decide +kernel
theorem d_W_fuse_15 : decode b_W_fuse 15 = .ok (.putfield 56, 3) := by decide +kernel
theorem d_W_fuse_18 : decode b_W_fuse 18 = .ok (.iconst 1, 1) := by decide +kernel
theorem d_W_fuse_19 : decode b_W_fuse 19 = .ok (.ireturn, 1) := by decide +kernel
theorem d_W_write_0 : decode b_W_write 0 = .ok (.aload_n 0, 1) := by decide +kernel
theorem d_W_write_1 : decode b_W_write 1 = .ok (.iload_n 1, 1) := by decide +kernel
theorem d_W_write_2 : decode b_W_write 2 = .ok (.iload_n 2, 1) := by decide +kernel
theorem d_W_write_3 : decode b_W_write 3 = .ok (.iconst 0, 1) := by decide +kernel
theorem d_W_write_4 : decode b_W_write 4 = .ok (.invokevirtual 176, 3) := by decide +kernel
theorem d_W_write_7 : decode b_W_write 7 = .ok (.ireturn, 1) := by decide +kernel
theorem d_W_put_0 : decode b_W_put 0 = .ok (.aload_n 0, 1) := by decide +kernel
theorem d_W_put_1 : decode b_W_put 1 = .ok (.iload_n 1, 1) := by decide +kernel
theorem d_W_put_2 : decode b_W_put 2 = .ok (.invokevirtual 161, 3) := by decide +kernel
theorem d_W_put_5 : decode b_W_put 5 = .ok (.ifCond .ne 5, 3) := by decide +kernel
theorem d_W_put_8 : decode b_W_put 8 = .ok (.iconst (-1), 1) := by decide +kernel
theorem d_W_put_9 : decode b_W_put 9 = .ok (.ireturn, 1) := by decide +kernel
theorem d_W_put_10 : decode b_W_put 10 = .ok (.aload_n 0, 1) := by decide +kernel
theorem d_W_put_11 : decode b_W_put 11 = .ok (.iload_n 1, 1) := by decide +kernel
theorem d_W_put_12 : decode b_W_put 12 = .ok (.invokevirtual 165, 3) := by decide +kernel
theorem d_W_put_15 : decode b_W_put 15 = .ok (.astore 4, 2) := by decide +kernel
theorem d_W_put_17 : decode b_W_put 17 = .ok (.aload 4, 2) := by decide +kernel
theorem d_W_put_19 : decode b_W_put 19 = .ok (.ifnonnull 41, 3) := by decide +kernel
theorem d_W_put_22 : decode b_W_put 22 = .ok (.aload_n 0, 1) := by decide +kernel
theorem d_W_put_23 : decode b_W_put 23 = .ok (.getfield 135, 3) := by decide +kernel
theorem d_W_put_26 : decode b_W_put 26 = .ok (.iconst 3, 1) := by decide +kernel
theorem d_W_put_27 : decode b_W_put 27 = .ok (.if_icmp .ne 15, 3) := by decide +kernel
theorem d_W_put_30 : decode b_W_put 30 = .ok (.aload_n 0, 1) := by decide +kernel
theorem d_W_put_31 : decode b_W_put 31 = .ok (.invokevirtual 169, 3) := by decide +kernel
theorem d_W_put_34 : decode b_W_put 34 = .ok (.ifCond .ne 8, 3) := by decide +kernel
theorem d_W_put_37 : decode b_W_put 37 = .ok (.aload_n 0, 1) := by decide +kernel
theorem d_W_put_38 : decode b_W_put 38 = .ok (.invokevirtual 147, 3) := by decide +kernel
theorem d_W_put_41 : decode b_W_put 41 = .ok (.ireturn, 1) := by decide +kernel
theorem d_W_put_42 : decode b_W_put 42 = .ok (.aload_n 0, 1) := by decide +kernel
theorem d_W_put_43 : decode b_W_put 43 = .ok (.getfield 10, 3) := by decide +kernel
theorem d_W_put_46 : decode b_W_put 46 = .ok (.aload_n 0, 1) := by decide +kernel
theorem d_W_put_47 : decode b_W_put 47 = .ok (.dup, 1) := by decide +kernel
theorem d_W_put_48 : decode b_W_put 48 = .ok (.getfield 135, 3) := by decide +kernel
theorem d_W_put_51 : decode b_W_put 51 = .ok (.dup_x1, 1) := by decide +kernel
theorem d_W_put_52 : decode b_W_put 52 = .ok (.iconst 1, 1) := by decide +kernel
theorem d_W_put_53 : decode b_W_put 53 = .ok (.iadd, 1) := by decide +kernel
theorem d_W_put_54 : decode b_W_put 54 = .ok (.putfield 135, 3) := by decide +kernel
theorem d_W_put_57 : decode b_W_put 57 = .ok (.aaload, 1) := by decide +kernel
theorem d_W_put_58 : decode b_W_put 58 = .ok (.astore 4, 2) := by decide +kernel
theorem d_W_put_60 : decode b_W_put 60 = .ok (.aload 4, 2) := by decide +kernel
theorem d_W_put_62 : decode b_W_put 62 = .ok (.iload_n 1, 1) := by decide +kernel
theorem d_W_put_63 : decode b_W_put 63 = .ok (.iload_n 2, 1) := by decide +kernel
theorem d_W_put_64 : decode b_W_put 64 = .ok (.iload_n 3, 1) := by decide +kernel
theorem d_W_put_65 : decode b_W_put 65 = .ok (.invokevirtual 172, 3) := by decide +kernel
theorem d_W_put_68 : decode b_W_put 68 = .ok (.iconst 0, 1) := by decide +kernel
theorem d_W_put_69 : decode b_W_put 69 = .ok (.ireturn, 1) := by decide +kernel
theorem d_W_isSector_0 : decode b_W_isSector 0 = .ok (.iload_n 1, 1) := by decide +kernel
theorem d_W_isSector_1 : decode b_W_isSector 1 = .ok (.ifCond .lt 16, 3) := by decide +kernel
theorem d_W_isSector_4 : decode b_W_isSector 4 = .ok (.iload_n 1, 1) := by decide +kernel
theorem d_W_isSector_5 : decode b_W_isSector 5 = .ok (.aload_n 0, 1) := by decide +kernel
theorem d_W_isSector_6 : decode b_W_isSector 6 = .ok (.getfield 42, 3) := by decide +kernel
theorem d_W_isSector_9 : decode b_W_isSector 9 = .ok (.arraylength, 1) := by decide +kernel
theorem d_W_isSector_10 : decode b_W_isSector 10 = .ok (.if_icmp .ge 7, 3) := by decide +kernel
theorem d_W_isSector_13 : decode b_W_isSector 13 = .ok (.iconst 1, 1) := by decide +kernel
theorem d_W_isSector_14 : decode b_W_isSector 14 = .ok (.goto 4, 3) := by decide +kernel
theorem d_W_isSector_17 : decode b_W_isSector 17 = .ok (.iconst 0, 1) := by decide +kernel
theorem d_W_isSector_18 : decode b_W_isSector 18 = .ok (.ireturn, 1) := by decide +kernel
theorem d_W_entry_0 : decode b_W_entry 0 = .ok (.iconst 0, 1) := by decide +kernel
theorem d_W_entry_1 : decode b_W_entry 1 = .ok (.istore_n 2, 1) := by decide +kernel
theorem d_W_entry_2 : decode b_W_entry 2 = .ok (.iload_n 2, 1) := by decide +kernel
theorem d_W_entry_3 : decode b_W_entry 3 = .ok (.aload_n 0, 1) := by decide +kernel
theorem d_W_entry_4 : decode b_W_entry 4 = .ok (.getfield 135, 3) := by decide +kernel
theorem d_W_entry_7 : decode b_W_entry 7 = .ok (.if_icmp .ge 29, 3) := by decide +kernel
theorem d_W_entry_10 : decode b_W_entry 10 = .ok (.aload_n 0, 1) := by decide +kernel
theorem d_W_entry_11 : decode b_W_entry 11 = .ok (.getfield 10, 3) := by decide +kernel
theorem d_W_entry_14 : decode b_W_entry 14 = .ok (.iload_n 2, 1) := by decide +kernel
theorem d_W_entry_15 : decode b_W_entry 15 = .ok (.aaload, 1) := by decide +kernel
theorem d_W_entry_16 : decode b_W_entry 16 = .ok (.getfield 154, 3) := by decide +kernel
theorem d_W_entry_19 : decode b_W_entry 19 = .ok (.iload_n 1, 1) := by decide +kernel
theorem d_W_entry_20 : decode b_W_entry 20 = .ok (.if_icmp .ne 10, 3) := by decide +kernel
theorem d_W_entry_23 : decode b_W_entry 23 = .ok (.aload_n 0, 1) := by decide +kernel
theorem d_W_entry_24 : decode b_W_entry 24 = .ok (.getfield 10, 3) := by decide +kernel
theorem d_W_entry_27 : decode b_W_entry 27 = .ok (.iload_n 2, 1) := by decide +kernel
theorem d_W_entry_28 : decode b_W_entry 28 = .ok (.aaload, 1) := by decide +kernel
theorem d_W_entry_29 : decode b_W_entry 29 = .ok (.areturn, 1) := by decide +kernel
theorem d_W_entry_30 : decode b_W_entry 30 = .ok (.iinc 2 1, 3) := by decide +kernel
theorem d_W_entry_33 : decode b_W_entry 33 = .ok (.goto (-31), 3) := by decide +kernel
theorem d_W_entry_36 : decode b_W_entry 36 = .ok (.aconst_null, 1) := by decide +kernel
theorem d_W_entry_37 : decode b_W_entry 37 = .ok (.areturn, 1) := by decide +kernel
theorem d_W_store_0 : decode b_W_store 0 = .ok (.aload_n 0, 1) := by decide +kernel
theorem d_W_store_1 : decode b_W_store 1 = .ok (.getfield 10, 3) := by decide +kernel
theorem d_W_store_4 : decode b_W_store 4 = .ok (.iconst 0, 1) := by decide +kernel
theorem d_W_store_5 : decode b_W_store 5 = .ok (.aaload, 1) := by decide +kernel
theorem d_W_store_6 : decode b_W_store 6 = .ok (.astore_n 1, 1) := by decide +kernel
theorem d_W_store_7 : decode b_W_store 7 = .ok (.aload_n 0, 1) := by decide +kernel
theorem d_W_store_8 : decode b_W_store 8 = .ok (.invokevirtual 151, 3) := by decide +kernel
theorem d_W_store_11 : decode b_W_store 11 = .ok (.ifCond .eq 22, 3) := by decide +kernel
theorem d_W_store_14 : decode b_W_store 14 = .ok (.aload_n 0, 1) := by decide +kernel
theorem d_W_store_15 : decode b_W_store 15 = .ok (.aload_n 1, 1) := by decide +kernel
theorem d_W_store_16 : decode b_W_store 16 = .ok (.getfield 154, 3) := by decide +kernel
theorem d_W_store_19 : decode b_W_store 19 = .ok (.aload_n 1, 1) := by decide +kernel
theorem d_W_store_20 : decode b_W_store 20 = .ok (.getfield 156, 3) := by decide +kernel
theorem d_W_store_23 : decode b_W_store 23 = .ok (.aload_n 1, 1) := by decide +kernel
theorem d_W_store_24 : decode b_W_store 24 = .ok (.getfield 158, 3) := by decide +kernel
theorem d_W_store_27 : decode b_W_store 27 = .ok (.invokevirtual 113, 3) := by decide +kernel
theorem d_W_store_30 : decode b_W_store 30 = .ok (.ifCond .ne 5, 3) := by decide +kernel
theorem d_W_store_33 : decode b_W_store 33 = .ok (.iconst 0, 1) := by decide +kernel
theorem d_W_store_34 : decode b_W_store 34 = .ok (.ireturn, 1) := by decide +kernel
theorem d_W_store_35 : decode b_W_store 35 = .ok (.iconst 1, 1) := by decide +kernel
theorem d_W_store_36 : decode b_W_store 36 = .ok (.istore_n 2, 1) := by decide +kernel
theorem d_W_store_37 : decode b_W_store 37 = .ok (.iload_n 2, 1) := by decide +kernel
theorem d_W_store_38 : decode b_W_store 38 = .ok (.aload_n 0, 1) := by decide +kernel
theorem d_W_store_39 : decode b_W_store 39 = .ok (.getfield 135, 3) := by decide +kernel
theorem d_W_store_42 : decode b_W_store 42 = .ok (.if_icmp .ge 23, 3) := by decide +kernel
theorem d_W_store_45 : decode b_W_store 45 = .ok (.aload_n 0, 1) := by decide +kernel
theorem d_W_store_46 : decode b_W_store 46 = .ok (.getfield 10, 3) := by decide +kernel
theorem d_W_store_49 : decode b_W_store 49 = .ok (.iload_n 2, 1) := by decide +kernel
theorem d_W_store_50 : decode b_W_store 50 = .ok (.iconst 1, 1) := by decide +kernel
theorem d_W_store_51 : decode b_W_store 51 = .ok (.isub, 1) := by decide +kernel
theorem d_W_store_52 : decode b_W_store 52 = .ok (.aload_n 0, 1) := by decide +kernel
theorem d_W_store_53 : decode b_W_store 53 = .ok (.getfield 10, 3) := by decide +kernel
theorem d_W_store_56 : decode b_W_store 56 = .ok (.iload_n 2, 1) := by decide +kernel
theorem d_W_store_57 : decode b_W_store 57 = .ok (.aaload, 1) := by decide +kernel
theorem d_W_store_58 : decode b_W_store 58 = .ok (.aastore, 1) := by decide +kernel
theorem d_W_store_59 : decode b_W_store 59 = .ok (.iinc 2 1, 3) := by decide +kernel
theorem d_W_store_62 : decode b_W_store 62 = .ok (.goto (-25), 3) := by decide +kernel
theorem d_W_store_65 : decode b_W_store 65 = .ok (.aload_n 0, 1) := by decide +kernel
theorem d_W_store_66 : decode b_W_store 66 = .ok (.getfield 10, 3) := by decide +kernel
theorem d_W_store_69 : decode b_W_store 69 = .ok (.aload_n 0, 1) := by decide +kernel
theorem d_W_store_70 : decode b_W_store 70 = .ok (.dup, 1) := by decide +kernel
theorem d_W_store_71 : decode b_W_store 71 = .ok (.getfield 135, 3) := by decide +kernel
theorem d_W_store_74 : decode b_W_store 74 = .ok (.iconst 1, 1) := by decide +kernel
theorem d_W_store_75 : decode b_W_store 75 = .ok (.isub, 1) := by decide +kernel
theorem d_W_store_76 : decode b_W_store 76 = .ok (.dup_x1, 1) := by decide +kernel
theorem d_W_store_77 : decode b_W_store 77 = .ok (.putfield 135, 3) := by decide +kernel
theorem d_W_store_80 : decode b_W_store 80 = .ok (.aload_n 1, 1) := by decide +kernel
theorem d_W_store_81 : decode b_W_store 81 = .ok (.aastore, 1) := by decide +kernel
theorem d_W_store_82 : decode b_W_store 82 = .ok (.iconst 1, 1) := by decide +kernel
theorem d_W_store_83 : decode b_W_store 83 = .ok (.ireturn, 1) := by decide +kernel
theorem d_W_provide_0 : decode b_W_provide 0 = .ok (.iconst 0, 1) := by decide +kernel
theorem d_W_provide_1 : decode b_W_provide 1 = .ok (.istore_n 1, 1) := by decide +kernel
theorem d_W_provide_2 : decode b_W_provide 2 = .ok (.aload_n 0, 1) := by decide +kernel
theorem d_W_provide_3 : decode b_W_provide 3 = .ok (.getfield 49, 3) := by decide +kernel
theorem d_W_provide_6 : decode b_W_provide 6 = .ok (.ifCond .le 100, 3) := by decide +kernel
theorem d_W_provide_9 : decode b_W_provide 9 = .ok (.aload_n 0, 1) := by decide +kernel
theorem d_W_provide_10 : decode b_W_provide 10 = .ok (.getfield 62, 3) := by decide +kernel
theorem d_W_provide_13 : decode b_W_provide 13 = .ok (.ifnull 13, 3) := by decide +kernel
theorem d_W_provide_16 : decode b_W_provide 16 = .ok (.aload_n 0, 1) := by decide +kernel
theorem d_W_provide_17 : decode b_W_provide 17 = .ok (.getfield 62, 3) := by decide +kernel
theorem d_W_provide_20 : decode b_W_provide 20 = .ok (.invokevirtual 66, 3) := by decide +kernel
theorem d_W_provide_23 : decode b_W_provide 23 = .ok (.ifCond .eq 83, 3) := by decide +kernel
theorem d_W_provide_26 : decode b_W_provide 26 = .ok (.aload_n 0, 1) := by decide +kernel
theorem d_W_provide_27 : decode b_W_provide 27 = .ok (.getfield 49, 3) := by decide +kernel
theorem d_W_provide_30 : decode b_W_provide 30 = .ok (.iconst 1, 1) := by decide +kernel
theorem d_W_provide_31 : decode b_W_provide 31 = .ok (.if_icmp .ne 7, 3) := by decide +kernel
theorem d_W_provide_34 : decode b_W_provide 34 = .ok (.iconst 1, 1) := by decide +kernel
theorem d_W_provide_35 : decode b_W_provide 35 = .ok (.goto 4, 3) := by decide +kernel
theorem d_W_provide_38 : decode b_W_provide 38 = .ok (.iconst 0, 1) := by decide +kernel
theorem d_W_provide_39 : decode b_W_provide 39 = .ok (.istore_n 2, 1) := by decide +kernel
theorem d_W_provide_40 : decode b_W_provide 40 = .ok (.aload_n 0, 1) := by decide +kernel
theorem d_W_provide_41 : decode b_W_provide 41 = .ok (.aload_n 0, 1) := by decide +kernel
theorem d_W_provide_42 : decode b_W_provide 42 = .ok (.invokevirtual 121, 3) := by decide +kernel
theorem d_W_provide_45 : decode b_W_provide 45 = .ok (.putfield 62, 3) := by decide +kernel
theorem d_W_provide_48 : decode b_W_provide 48 = .ok (.iload_n 2, 1) := by decide +kernel
theorem d_W_provide_49 : decode b_W_provide 49 = .ok (.ifCond .ne 5, 3) := by decide +kernel
theorem d_W_provide_52 : decode b_W_provide 52 = .ok (.iconst 1, 1) := by decide +kernel
theorem d_W_provide_53 : decode b_W_provide 53 = .ok (.ireturn, 1) := by decide +kernel
theorem d_W_provide_54 : decode b_W_provide 54 = .ok (.iload_n 1, 1) := by decide +kernel
theorem d_W_provide_55 : decode b_W_provide 55 = .ok (.ifCond .ne 17, 3) := by decide +kernel
theorem d_W_provide_58 : decode b_W_provide 58 = .ok (.aload_n 0, 1) := by decide +kernel
theorem d_W_provide_59 : decode b_W_provide 59 = .ok (.invokevirtual 125, 3) := by decide +kernel
theorem d_W_provide_62 : decode b_W_provide 62 = .ok (.ifCond .eq 10, 3) := by decide +kernel
theorem d_W_provide_65 : decode b_W_provide 65 = .ok (.aload_n 0, 1) := by decide +kernel
theorem d_W_provide_66 : decode b_W_provide 66 = .ok (.getfield 26, 3) := by decide +kernel
theorem d_W_provide_69 : decode b_W_provide 69 = .ok (.goto 7, 3) := by decide +kernel
theorem d_W_provide_72 : decode b_W_provide 72 = .ok (.aload_n 0, 1) := by decide +kernel
theorem d_W_provide_73 : decode b_W_provide 73 = .ok (.getfield 19, 3) := by decide +kernel
theorem d_W_provide_76 : decode b_W_provide 76 = .ok (.astore_n 3, 1) := by decide +kernel
theorem d_W_provide_77 : decode b_W_provide 77 = .ok (.iload_n 1, 1) := by decide +kernel
theorem d_W_provide_78 : decode b_W_provide 78 = .ok (.aload_n 3, 1) := by decide +kernel
theorem d_W_provide_79 : decode b_W_provide 79 = .ok (.aload_n 0, 1) := by decide +kernel
theorem d_W_provide_80 : decode b_W_provide 80 = .ok (.getfield 26, 3) := by decide +kernel
theorem d_W_provide_83 : decode b_W_provide 83 = .ok (.if_acmp .ne 7, 3) := by decide +kernel
theorem d_W_provide_86 : decode b_W_provide 86 = .ok (.iconst 1, 1) := by decide +kernel
theorem d_W_provide_87 : decode b_W_provide 87 = .ok (.goto 4, 3) := by decide +kernel
theorem d_W_provide_90 : decode b_W_provide 90 = .ok (.iconst 0, 1) := by decide +kernel
theorem d_W_provide_91 : decode b_W_provide 91 = .ok (.ior, 1) := by decide +kernel
theorem d_W_provide_92 : decode b_W_provide 92 = .ok (.istore_n 1, 1) := by decide +kernel
theorem d_W_provide_93 : decode b_W_provide 93 = .ok (.aload_n 0, 1) := by decide +kernel
theorem d_W_provide_94 : decode b_W_provide 94 = .ok (.aload_n 3, 1) := by decide +kernel
theorem d_W_provide_95 : decode b_W_provide 95 = .ok (.invokevirtual 128, 3) := by decide +kernel
theorem d_W_provide_98 : decode b_W_provide 98 = .ok (.ifCond .ne 5, 3) := by decide +kernel
theorem d_W_provide_101 : decode b_W_provide 101 = .ok (.iconst 0, 1) := by decide +kernel
theorem d_W_provide_102 : decode b_W_provide 102 = .ok (.ireturn, 1) := by decide +kernel
theorem d_W_provide_103 : decode b_W_provide 103 = .ok (.goto (-101), 3) := by decide +kernel
theorem d_W_provide_106 : decode b_W_provide 106 = .ok (.iconst 1, 1) := by decide +kernel
theorem d_W_provide_107 : decode b_W_provide 107 = .ok (.ireturn, 1) := by decide +kernel
theorem d_W_pop_0 : decode b_W_pop 0 = .ok (.aload_n 0, 1) := by decide +kernel
theorem d_W_pop_1 : decode b_W_pop 1 = .ok (.getfield 39, 3) := by decide +kernel
theorem d_W_pop_4 : decode b_W_pop 4 = .ok (.iconst 0, 1) := by decide +kernel
theorem d_W_pop_5 : decode b_W_pop 5 = .ok (.aaload, 1) := by decide +kernel
theorem d_W_pop_6 : decode b_W_pop 6 = .ok (.astore_n 1, 1) := by decide +kernel
theorem d_W_pop_7 : decode b_W_pop 7 = .ok (.aload_n 0, 1) := by decide +kernel
theorem d_W_pop_8 : decode b_W_pop 8 = .ok (.getfield 39, 3) := by decide +kernel
theorem d_W_pop_11 : decode b_W_pop 11 = .ok (.aload_n 0, 1) := by decide +kernel
theorem d_W_pop_12 : decode b_W_pop 12 = .ok (.dup, 1) := by decide +kernel
theorem d_W_pop_13 : decode b_W_pop 13 = .ok (.getfield 49, 3) := by decide +kernel
theorem d_W_pop_16 : decode b_W_pop 16 = .ok (.iconst 1, 1) := by decide +kernel
theorem d_W_pop_17 : decode b_W_pop 17 = .ok (.isub, 1) := by decide +kernel
theorem d_W_pop_18 : decode b_W_pop 18 = .ok (.dup_x1, 1) := by decide +kernel
theorem d_W_pop_19 : decode b_W_pop 19 = .ok (.putfield 49, 3) := by decide +kernel
theorem d_W_pop_22 : decode b_W_pop 22 = .ok (.aaload, 1) := by decide +kernel
theorem d_W_pop_23 : decode b_W_pop 23 = .ok (.astore_n 2, 1) := by decide +kernel
theorem d_W_pop_24 : decode b_W_pop 24 = .ok (.iconst 0, 1) := by decide +kernel
theorem d_W_pop_25 : decode b_W_pop 25 = .ok (.istore_n 3, 1) := by decide +kernel
theorem d_W_pop_26 : decode b_W_pop 26 = .ok (.iconst 2, 1) := by decide +kernel
theorem d_W_pop_27 : decode b_W_pop 27 = .ok (.iload_n 3, 1) := by decide +kernel
theorem d_W_pop_28 : decode b_W_pop 28 = .ok (.imul, 1) := by decide +kernel
theorem d_W_pop_29 : decode b_W_pop 29 = .ok (.iconst 1, 1) := by decide +kernel
theorem d_W_pop_30 : decode b_W_pop 30 = .ok (.iadd, 1) := by decide +kernel
theorem d_W_pop_31 : decode b_W_pop 31 = .ok (.aload_n 0, 1) := by decide +kernel
theorem d_W_pop_32 : decode b_W_pop 32 = .ok (.getfield 49, 3) := by decide +kernel
theorem d_W_pop_35 : decode b_W_pop 35 = .ok (.if_icmp .ge 82, 3) := by decide +kernel
theorem d_W_pop_38 : decode b_W_pop 38 = .ok (.iconst 2, 1) := by decide +kernel
theorem d_W_pop_39 : decode b_W_pop 39 = .ok (.iload_n 3, 1) := by decide +kernel
theorem d_W_pop_40 : decode b_W_pop 40 = .ok (.imul, 1) := by decide +kernel
theorem d_W_pop_41 : decode b_W_pop 41 = .ok (.iconst 1, 1) := by decide +kernel
theorem d_W_pop_42 : decode b_W_pop 42 = .ok (.iadd, 1) := by decide +kernel
theorem d_W_pop_43 : decode b_W_pop 43 = .ok (.istore 4, 2) := by decide +kernel
theorem d_W_pop_45 : decode b_W_pop 45 = .ok (.iload 4, 2) := by decide +kernel
theorem d_W_pop_47 : decode b_W_pop 47 = .ok (.iconst 1, 1) := by decide +kernel
theorem d_W_pop_48 : decode b_W_pop 48 = .ok (.iadd, 1) := by decide +kernel
theorem d_W_pop_49 : decode b_W_pop 49 = .ok (.aload_n 0, 1) := by decide +kernel
theorem d_W_pop_50 : decode b_W_pop 50 = .ok (.getfield 49, 3) := by decide +kernel
theorem d_W_pop_53 : decode b_W_pop 53 = .ok (.if_icmp .ge 28, 3) := by decide +kernel
theorem d_W_pop_56 : decode b_W_pop 56 = .ok (.aload_n 0, 1) := by decide +kernel
theorem d_W_pop_57 : decode b_W_pop 57 = .ok (.getfield 39, 3) := by decide +kernel
theorem d_W_pop_60 : decode b_W_pop 60 = .ok (.iload 4, 2) := by decide +kernel
theorem d_W_pop_62 : decode b_W_pop 62 = .ok (.iconst 1, 1) := by decide +kernel
theorem d_W_pop_63 : decode b_W_pop 63 = .ok (.iadd, 1) := by decide +kernel
theorem d_W_pop_64 : decode b_W_pop 64 = .ok (.aaload, 1) := by decide +kernel
theorem d_W_pop_65 : decode b_W_pop 65 = .ok (.aload_n 0, 1) := by decide +kernel
theorem d_W_pop_66 : decode b_W_pop 66 = .ok (.getfield 39, 3) := by decide +kernel
theorem d_W_pop_69 : decode b_W_pop 69 = .ok (.iload 4, 2) := by decide +kernel
theorem d_W_pop_71 : decode b_W_pop 71 = .ok (.aaload, 1) := by decide +kernel
theorem d_W_pop_72 : decode b_W_pop 72 = .ok (.invokevirtual 52, 3) := by decide +kernel
theorem d_W_pop_75 : decode b_W_pop 75 = .ok (.ifCond .ge 6, 3) := by decide +kernel
theorem d_W_pop_78 : decode b_W_pop 78 = .ok (.iinc 4 1, 3) := by decide +kernel
theorem d_W_pop_81 : decode b_W_pop 81 = .ok (.aload_n 2, 1) := by decide +kernel
theorem d_W_pop_82 : decode b_W_pop 82 = .ok (.aload_n 0, 1) := by decide +kernel
theorem d_W_pop_83 : decode b_W_pop 83 = .ok (.getfield 39, 3) := by decide +kernel
theorem d_W_pop_86 : decode b_W_pop 86 = .ok (.iload 4, 2) := by decide +kernel
theorem d_W_pop_88 : decode b_W_pop 88 = .ok (.aaload, 1) := by decide +kernel
theorem d_W_pop_89 : decode b_W_pop 89 = .ok (.invokevirtual 52, 3) := by decide +kernel
theorem d_W_pop_92 : decode b_W_pop 92 = .ok (.ifCond .ge 6, 3) := by decide +kernel
theorem d_W_pop_95 : decode b_W_pop 95 = .ok (.goto 22, 3) := by decide +kernel
theorem d_W_pop_98 : decode b_W_pop 98 = .ok (.aload_n 0, 1) := by decide +kernel
theorem d_W_pop_99 : decode b_W_pop 99 = .ok (.getfield 39, 3) := by decide +kernel
theorem d_W_pop_102 : decode b_W_pop 102 = .ok (.iload_n 3, 1) := by decide +kernel
theorem d_W_pop_103 : decode b_W_pop 103 = .ok (.aload_n 0, 1) := by decide +kernel
theorem d_W_pop_104 : decode b_W_pop 104 = .ok (.getfield 39, 3) := by decide +kernel
theorem d_W_pop_107 : decode b_W_pop 107 = .ok (.iload 4, 2) := by decide +kernel
theorem d_W_pop_109 : decode b_W_pop 109 = .ok (.aaload, 1) := by decide +kernel
theorem d_W_pop_110 : decode b_W_pop 110 = .ok (.aastore, 1) := by decide +kernel
theorem d_W_pop_111 : decode b_W_pop 111 = .ok (.iload 4, 2) := by decide +kernel
theorem d_W_pop_113 : decode b_W_pop 113 = .ok (.istore_n 3, 1) := by decide +kernel
theorem d_W_pop_114 : decode b_W_pop 114 = .ok (.goto (-88), 3) := by decide +kernel
theorem d_W_pop_117 : decode b_W_pop 117 = .ok (.aload_n 0, 1) := by decide +kernel
theorem d_W_pop_118 : decode b_W_pop 118 = .ok (.getfield 39, 3) := by decide +kernel
theorem d_W_pop_121 : decode b_W_pop 121 = .ok (.iload_n 3, 1) := by decide +kernel
theorem d_W_pop_122 : decode b_W_pop 122 = .ok (.aload_n 2, 1) := by decide +kernel
theorem d_W_pop_123 : decode b_W_pop 123 = .ok (.aastore, 1) := by decide +kernel
theorem d_W_pop_124 : decode b_W_pop 124 = .ok (.aload_n 1, 1) := by decide +kernel
theorem d_W_pop_125 : decode b_W_pop 125 = .ok (.areturn, 1) := by decide +kernel
theorem d_W_isWorn_0 : decode b_W_isWorn 0 = .ok (.aload_n 0, 1) := by decide +kernel
theorem d_W_isWorn_1 : decode b_W_isWorn 1 = .ok (.getfield 35, 3) := by decide +kernel
theorem d_W_isWorn_4 : decode b_W_isWorn 4 = .ok (.iconst 0, 1) := by decide +kernel
theorem d_W_isWorn_5 : decode b_W_isWorn 5 = .ok (.aaload, 1) := by decide +kernel
theorem d_W_isWorn_6 : decode b_W_isWorn 6 = .ok (.astore_n 1, 1) := by decide +kernel
theorem d_W_isWorn_7 : decode b_W_isWorn 7 = .ok (.aload_n 0, 1) := by decide +kernel
theorem d_W_isWorn_8 : decode b_W_isWorn 8 = .ok (.getfield 35, 3) := by decide +kernel
theorem d_W_isWorn_11 : decode b_W_isWorn 11 = .ok (.iconst 0, 1) := by decide +kernel
theorem d_W_isWorn_12 : decode b_W_isWorn 12 = .ok (.aaload, 1) := by decide +kernel
theorem d_W_isWorn_13 : decode b_W_isWorn 13 = .ok (.astore_n 2, 1) := by decide +kernel
theorem d_W_isWorn_14 : decode b_W_isWorn 14 = .ok (.aload_n 0, 1) := by decide +kernel
theorem d_W_isWorn_15 : decode b_W_isWorn 15 = .ok (.getfield 35, 3) := by decide +kernel
theorem d_W_isWorn_18 : decode b_W_isWorn 18 = .ok (.astore_n 3, 1) := by decide +kernel
theorem d_W_isWorn_19 : decode b_W_isWorn 19 = .ok (.aload_n 3, 1) := by decide +kernel
theorem d_W_isWorn_20 : decode b_W_isWorn 20 = .ok (.arraylength, 1) := by decide +kernel
theorem d_W_isWorn_21 : decode b_W_isWorn 21 = .ok (.istore 4, 2) := by decide +kernel
theorem d_W_isWorn_23 : decode b_W_isWorn 23 = .ok (.iconst 0, 1) := by decide +kernel
theorem d_W_isWorn_24 : decode b_W_isWorn 24 = .ok (.istore 5, 2) := by decide +kernel
theorem d_W_isWorn_26 : decode b_W_isWorn 26 = .ok (.iload 5, 2) := by decide +kernel
theorem d_W_isWorn_28 : decode b_W_isWorn 28 = .ok (.iload 4, 2) := by decide +kernel
theorem d_W_isWorn_30 : decode b_W_isWorn 30 = .ok (.if_icmp .ge 53, 3) := by decide +kernel
theorem d_W_isWorn_33 : decode b_W_isWorn 33 = .ok (.aload_n 3, 1) := by decide +kernel
theorem d_W_isWorn_34 : decode b_W_isWorn 34 = .ok (.iload 5, 2) := by decide +kernel
theorem d_W_isWorn_36 : decode b_W_isWorn 36 = .ok (.aaload, 1) := by decide +kernel
theorem d_W_isWorn_37 : decode b_W_isWorn 37 = .ok (.astore 6, 2) := by decide +kernel
theorem d_W_isWorn_39 : decode b_W_isWorn 39 = .ok (.aload 6, 2) := by decide +kernel
theorem d_W_isWorn_41 : decode b_W_isWorn 41 = .ok (.getfield 100, 3) := by decide +kernel
theorem d_W_isWorn_44 : decode b_W_isWorn 44 = .ok (.aload_n 1, 1) := by decide +kernel
theorem d_W_isWorn_45 : decode b_W_isWorn 45 = .ok (.getfield 100, 3) := by decide +kernel
theorem d_W_isWorn_48 : decode b_W_isWorn 48 = .ok (.if_icmp .ge 8, 3) := by decide +kernel
theorem d_W_isWorn_51 : decode b_W_isWorn 51 = .ok (.aload 6, 2) := by decide +kernel
theorem d_W_isWorn_53 : decode b_W_isWorn 53 = .ok (.goto 4, 3) := by decide +kernel
theorem d_W_isWorn_56 : decode b_W_isWorn 56 = .ok (.aload_n 1, 1) := by decide +kernel
theorem d_W_isWorn_57 : decode b_W_isWorn 57 = .ok (.astore_n 1, 1) := by decide +kernel
theorem d_W_isWorn_58 : decode b_W_isWorn 58 = .ok (.aload 6, 2) := by decide +kernel
theorem d_W_isWorn_60 : decode b_W_isWorn 60 = .ok (.getfield 100, 3) := by decide +kernel
theorem d_W_isWorn_63 : decode b_W_isWorn 63 = .ok (.aload_n 2, 1) := by decide +kernel
theorem d_W_isWorn_64 : decode b_W_isWorn 64 = .ok (.getfield 100, 3) := by decide +kernel
theorem d_W_isWorn_67 : decode b_W_isWorn 67 = .ok (.if_icmp .le 8, 3) := by decide +kernel
theorem d_W_isWorn_70 : decode b_W_isWorn 70 = .ok (.aload 6, 2) := by decide +kernel
theorem d_W_isWorn_72 : decode b_W_isWorn 72 = .ok (.goto 4, 3) := by decide +kernel
theorem d_W_isWorn_75 : decode b_W_isWorn 75 = .ok (.aload_n 2, 1) := by decide +kernel
theorem d_W_isWorn_76 : decode b_W_isWorn 76 = .ok (.astore_n 2, 1) := by decide +kernel
theorem d_W_isWorn_77 : decode b_W_isWorn 77 = .ok (.iinc 5 1, 3) := by decide +kernel
theorem d_W_isWorn_80 : decode b_W_isWorn 80 = .ok (.goto (-54), 3) := by decide +kernel
theorem d_W_isWorn_83 : decode b_W_isWorn 83 = .ok (.aload_n 2, 1) := by decide +kernel
theorem d_W_isWorn_84 : decode b_W_isWorn 84 = .ok (.getfield 100, 3) := by decide +kernel
theorem d_W_isWorn_87 : decode b_W_isWorn 87 = .ok (.aload_n 1, 1) := by decide +kernel
theorem d_W_isWorn_88 : decode b_W_isWorn 88 = .ok (.getfield 100, 3) := by decide +kernel
theorem d_W_isWorn_91 : decode b_W_isWorn 91 = .ok (.isub, 1) := by decide +kernel
theorem d_W_isWorn_92 : decode b_W_isWorn 92 = .ok (.aload_n 0, 1) := by decide +kernel
theorem d_W_isWorn_93 : decode b_W_isWorn 93 = .ok (.getfield 29, 3) := by decide +kernel
theorem d_W_isWorn_96 : decode b_W_isWorn 96 = .ok (.if_icmp .le 7, 3) := by decide +kernel
theorem d_W_isWorn_99 : decode b_W_isWorn 99 = .ok (.iconst 1, 1) := by decide +kernel
theorem d_W_isWorn_100 : decode b_W_isWorn 100 = .ok (.goto 4, 3) := by decide +kernel
theorem d_W_isWorn_103 : decode b_W_isWorn 103 = .ok (.iconst 0, 1) := by decide +kernel
theorem d_W_isWorn_104 : decode b_W_isWorn 104 = .ok (.ireturn, 1) := by decide +kernel
theorem d_E_set_0 : decode b_E_set 0 = .ok (.aload_n 0, 1) := by decide +kernel
theorem d_E_set_1 : decode b_E_set 1 = .ok (.iload_n 1, 1) := by decide +kernel
theorem d_E_set_2 : decode b_E_set 2 = .ok (.putfield 7, 3) := by decide +kernel
theorem d_E_set_5 : decode b_E_set 5 = .ok (.aload_n 0, 1) := by decide +kernel
theorem d_E_set_6 : decode b_E_set 6 = .ok (.iload_n 2, 1) := by decide +kernel
theorem d_E_set_7 : decode b_E_set 7 = .ok (.putfield 13, 3) := by decide +kernel
theorem d_E_set_10 : decode b_E_set 10 = .ok (.aload_n 0, 1) := by decide +kernel
theorem d_E_set_11 : decode b_E_set 11 = .ok (.iload_n 3, 1) := by decide +kernel
theorem d_E_set_12 : decode b_E_set 12 = .ok (.putfield 16, 3) := by decide +kernel
theorem d_E_set_15 : decode b_E_set 15 = .ok (.return_, 1) := by decide +kernel
theorem d_W_trim_0 : decode b_W_trim 0 = .ok (.aload_n 0, 1) := by decide +kernel
theorem d_W_trim_1 : decode b_W_trim 1 = .ok (.iload_n 1, 1) := by decide +kernel
theorem d_W_trim_2 : decode b_W_trim 2 = .ok (.iconst 0, 1) := by decide +kernel
theorem d_W_trim_3 : decode b_W_trim 3 = .ok (.iconst 1, 1) := by decide +kernel
theorem d_W_trim_4 : decode b_W_trim 4 = .ok (.invokevirtual 176, 3) := by decide +kernel
theorem d_W_trim_7 : decode b_W_trim 7 = .ok (.ireturn, 1) := by decide +kernel
theorem d_W_flush_0 : decode b_W_flush 0 = .ok (.aload_n 0, 1) := by decide +kernel
theorem d_W_flush_1 : decode b_W_flush 1 = .ok (.getfield 135, 3) := by decide +kernel
theorem d_W_flush_4 : decode b_W_flush 4 = .ok (.ifCond .le 15, 3) := by decide +kernel
theorem d_W_flush_7 : decode b_W_flush 7 = .ok (.aload_n 0, 1) := by decide +kernel
theorem d_W_flush_8 : decode b_W_flush 8 = .ok (.invokevirtual 169, 3) := by decide +kernel
theorem d_W_flush_11 : decode b_W_flush 11 = .ok (.ifCond .ne (-11), 3) := by decide +kernel
theorem d_W_flush_14 : decode b_W_flush 14 = .ok (.aload_n 0, 1) := by decide +kernel
theorem d_W_flush_15 : decode b_W_flush 15 = .ok (.invokevirtual 147, 3) := by decide +kernel
theorem d_W_flush_18 : decode b_W_flush 18 = .ok (.ireturn, 1) := by decide +kernel
theorem d_W_flush_19 : decode b_W_flush 19 = .ok (.iconst 0, 1) := by decide +kernel
theorem d_W_flush_20 : decode b_W_flush 20 = .ok (.ireturn, 1) := by decide +kernel
theorem d_W_sectors_0 : decode b_W_sectors 0 = .ok (.aload_n 0, 1) := by decide +kernel
theorem d_W_sectors_1 : decode b_W_sectors 1 = .ok (.getfield 42, 3) := by decide +kernel
theorem d_W_sectors_4 : decode b_W_sectors 4 = .ok (.arraylength, 1) := by decide +kernel
theorem d_W_sectors_5 : decode b_W_sectors 5 = .ok (.ireturn, 1) := by decide +kernel
theorem d_W_read_0 : decode b_W_read 0 = .ok (.aload_n 0, 1) := by decide +kernel
theorem d_W_read_1 : decode b_W_read 1 = .ok (.iload_n 1, 1) := by decide +kernel
theorem d_W_read_2 : decode b_W_read 2 = .ok (.invokevirtual 161, 3) := by decide +kernel
theorem d_W_read_5 : decode b_W_read 5 = .ok (.ifCond .ne 5, 3) := by decide +kernel
theorem d_W_read_8 : decode b_W_read 8 = .ok (.iconst 0, 1) := by decide +kernel
theorem d_W_read_9 : decode b_W_read 9 = .ok (.ireturn, 1) := by decide +kernel
theorem d_W_read_10 : decode b_W_read 10 = .ok (.aload_n 0, 1) := by decide +kernel
theorem d_W_read_11 : decode b_W_read 11 = .ok (.iload_n 1, 1) := by decide +kernel
theorem d_W_read_12 : decode b_W_read 12 = .ok (.invokevirtual 165, 3) := by decide +kernel
theorem d_W_read_15 : decode b_W_read 15 = .ok (.astore_n 2, 1) := by decide +kernel
theorem d_W_read_16 : decode b_W_read 16 = .ok (.aload_n 2, 1) := by decide +kernel
theorem d_W_read_17 : decode b_W_read 17 = .ok (.ifnull 8, 3) := by decide +kernel
theorem d_W_read_20 : decode b_W_read 20 = .ok (.aload_n 2, 1) := by decide +kernel
theorem d_W_read_21 : decode b_W_read 21 = .ok (.getfield 156, 3) := by decide +kernel
theorem d_W_read_24 : decode b_W_read 24 = .ok (.ireturn, 1) := by decide +kernel
theorem d_W_read_25 : decode b_W_read 25 = .ok (.aload_n 0, 1) := by decide +kernel
theorem d_W_read_26 : decode b_W_read 26 = .ok (.getfield 42, 3) := by decide +kernel
theorem d_W_read_29 : decode b_W_read 29 = .ok (.iload_n 1, 1) := by decide +kernel
theorem d_W_read_30 : decode b_W_read 30 = .ok (.baload, 1) := by decide +kernel
theorem d_W_read_31 : decode b_W_read 31 = .ok (.istore_n 3, 1) := by decide +kernel
theorem d_W_read_32 : decode b_W_read 32 = .ok (.iload_n 3, 1) := by decide +kernel
theorem d_W_read_33 : decode b_W_read 33 = .ok (.iconst (-1), 1) := by decide +kernel
theorem d_W_read_34 : decode b_W_read 34 = .ok (.if_icmp .ne 7, 3) := by decide +kernel
theorem d_W_read_37 : decode b_W_read 37 = .ok (.iconst 0, 1) := by decide +kernel
theorem d_W_read_38 : decode b_W_read 38 = .ok (.goto 18, 3) := by decide +kernel
theorem d_W_read_41 : decode b_W_read 41 = .ok (.aload_n 0, 1) := by decide +kernel
theorem d_W_read_42 : decode b_W_read 42 = .ok (.getfield 35, 3) := by decide +kernel
theorem d_W_read_45 : decode b_W_read 45 = .ok (.iload_n 3, 1) := by decide +kernel
theorem d_W_read_46 : decode b_W_read 46 = .ok (.iconst 4, 1) := by decide +kernel
theorem d_W_read_47 : decode b_W_read 47 = .ok (.idiv, 1) := by decide +kernel
theorem d_W_read_48 : decode b_W_read 48 = .ok (.aaload, 1) := by decide +kernel
theorem d_W_read_49 : decode b_W_read 49 = .ok (.getfield 79, 3) := by decide +kernel
theorem d_W_read_52 : decode b_W_read 52 = .ok (.iload_n 3, 1) := by decide +kernel
theorem d_W_read_53 : decode b_W_read 53 = .ok (.iconst 4, 1) := by decide +kernel
theorem d_W_read_54 : decode b_W_read 54 = .ok (.irem, 1) := by decide +kernel
theorem d_W_read_55 : decode b_W_read 55 = .ok (.iaload, 1) := by decide +kernel
theorem d_W_read_56 : decode b_W_read 56 = .ok (.ireturn, 1) := by decide +kernel
theorem d_W_holds_0 : decode b_W_holds 0 = .ok (.aload_n 0, 1) := by decide +kernel
theorem d_W_holds_1 : decode b_W_holds 1 = .ok (.iload_n 1, 1) := by decide +kernel
theorem d_W_holds_2 : decode b_W_holds 2 = .ok (.invokevirtual 161, 3) := by decide +kernel
theorem d_W_holds_5 : decode b_W_holds 5 = .ok (.ifCond .ne 5, 3) := by decide +kernel
theorem d_W_holds_8 : decode b_W_holds 8 = .ok (.iconst 0, 1) := by decide +kernel
theorem d_W_holds_9 : decode b_W_holds 9 = .ok (.ireturn, 1) := by decide +kernel
theorem d_W_holds_10 : decode b_W_holds 10 = .ok (.aload_n 0, 1) := by decide +kernel
theorem d_W_holds_11 : decode b_W_holds 11 = .ok (.iload_n 1, 1) := by decide +kernel
theorem d_W_holds_12 : decode b_W_holds 12 = .ok (.invokevirtual 165, 3) := by decide +kernel
theorem d_W_holds_15 : decode b_W_holds 15 = .ok (.astore_n 2, 1) := by decide +kernel
theorem d_W_holds_16 : decode b_W_holds 16 = .ok (.aload_n 0, 1) := by decide +kernel
theorem d_W_holds_17 : decode b_W_holds 17 = .ok (.getfield 42, 3) := by decide +kernel
theorem d_W_holds_20 : decode b_W_holds 20 = .ok (.iload_n 1, 1) := by decide +kernel
theorem d_W_holds_21 : decode b_W_holds 21 = .ok (.baload, 1) := by decide +kernel
theorem d_W_holds_22 : decode b_W_holds 22 = .ok (.istore_n 3, 1) := by decide +kernel
theorem d_W_holds_23 : decode b_W_holds 23 = .ok (.aload_n 2, 1) := by decide +kernel
theorem d_W_holds_24 : decode b_W_holds 24 = .ok (.ifnonnull 10, 3) := by decide +kernel
theorem d_W_holds_27 : decode b_W_holds 27 = .ok (.iload_n 3, 1) := by decide +kernel
theorem d_W_holds_28 : decode b_W_holds 28 = .ok (.iconst (-1), 1) := by decide +kernel
theorem d_W_holds_29 : decode b_W_holds 29 = .ok (.if_icmp .ne 5, 3) := by decide +kernel
theorem d_W_holds_32 : decode b_W_holds 32 = .ok (.iconst 0, 1) := by decide +kernel
theorem d_W_holds_33 : decode b_W_holds 33 = .ok (.ireturn, 1) := by decide +kernel
theorem d_W_holds_34 : decode b_W_holds 34 = .ok (.aload_n 2, 1) := by decide +kernel
theorem d_W_holds_35 : decode b_W_holds 35 = .ok (.ifnull 13, 3) := by decide +kernel
theorem d_W_holds_38 : decode b_W_holds 38 = .ok (.aload_n 2, 1) := by decide +kernel
theorem d_W_holds_39 : decode b_W_holds 39 = .ok (.getfield 158, 3) := by decide +kernel
theorem d_W_holds_42 : decode b_W_holds 42 = .ok (.ifCond .eq 28, 3) := by decide +kernel
theorem d_W_holds_45 : decode b_W_holds 45 = .ok (.goto 21, 3) := by decide +kernel
theorem d_W_holds_48 : decode b_W_holds 48 = .ok (.aload_n 0, 1) := by decide +kernel
theorem d_W_holds_49 : decode b_W_holds 49 = .ok (.getfield 35, 3) := by decide +kernel
theorem d_W_holds_52 : decode b_W_holds 52 = .ok (.iload_n 3, 1) := by decide +kernel
theorem d_W_holds_53 : decode b_W_holds 53 = .ok (.iconst 4, 1) := by decide +kernel
theorem d_W_holds_54 : decode b_W_holds 54 = .ok (.idiv, 1) := by decide +kernel
theorem d_W_holds_55 : decode b_W_holds 55 = .ok (.aaload, 1) := by decide +kernel
theorem d_W_holds_56 : decode b_W_holds 56 = .ok (.getfield 83, 3) := by decide +kernel
theorem d_W_holds_59 : decode b_W_holds 59 = .ok (.iload_n 3, 1) := by decide +kernel
theorem d_W_holds_60 : decode b_W_holds 60 = .ok (.iconst 4, 1) := by decide +kernel
theorem d_W_holds_61 : decode b_W_holds 61 = .ok (.irem, 1) := by decide +kernel
theorem d_W_holds_62 : decode b_W_holds 62 = .ok (.baload, 1) := by decide +kernel
theorem d_W_holds_63 : decode b_W_holds 63 = .ok (.ifCond .eq 7, 3) := by decide +kernel
theorem d_W_holds_66 : decode b_W_holds 66 = .ok (.iconst 2, 1) := by decide +kernel
theorem d_W_holds_67 : decode b_W_holds 67 = .ok (.goto 4, 3) := by decide +kernel
theorem d_W_holds_70 : decode b_W_holds 70 = .ok (.iconst 1, 1) := by decide +kernel
theorem d_W_holds_71 : decode b_W_holds 71 = .ok (.ireturn, 1) := by decide +kernel
theorem d_W_buffered_0 : decode b_W_buffered 0 = .ok (.aload_n 0, 1) := by decide +kernel
theorem d_W_buffered_1 : decode b_W_buffered 1 = .ok (.getfield 135, 3) := by decide +kernel
theorem d_W_buffered_4 : decode b_W_buffered 4 = .ok (.ireturn, 1) := by decide +kernel
theorem d_W_place_0 : decode b_W_place 0 = .ok (.aload_n 0, 1) := by decide +kernel
theorem d_W_place_1 : decode b_W_place 1 = .ok (.iload_n 1, 1) := by decide +kernel
theorem d_W_place_2 : decode b_W_place 2 = .ok (.invokevirtual 161, 3) := by decide +kernel
theorem d_W_place_5 : decode b_W_place 5 = .ok (.ifCond .eq 12, 3) := by decide +kernel
theorem d_W_place_8 : decode b_W_place 8 = .ok (.aload_n 0, 1) := by decide +kernel
theorem d_W_place_9 : decode b_W_place 9 = .ok (.getfield 42, 3) := by decide +kernel
theorem d_W_place_12 : decode b_W_place 12 = .ok (.iload_n 1, 1) := by decide +kernel
theorem d_W_place_13 : decode b_W_place 13 = .ok (.baload, 1) := by decide +kernel
theorem d_W_place_14 : decode b_W_place 14 = .ok (.goto 4, 3) := by decide +kernel
theorem d_W_place_17 : decode b_W_place 17 = .ok (.iconst (-1), 1) := by decide +kernel
theorem d_W_place_18 : decode b_W_place 18 = .ok (.ireturn, 1) := by decide +kernel
theorem d_W_tag_0 : decode b_W_tag 0 = .ok (.aload_n 0, 1) := by decide +kernel
theorem d_W_tag_1 : decode b_W_tag 1 = .ok (.iload_n 1, 1) := by decide +kernel
theorem d_W_tag_2 : decode b_W_tag 2 = .ok (.invokevirtual 180, 3) := by decide +kernel
theorem d_W_tag_5 : decode b_W_tag 5 = .ok (.astore_n 2, 1) := by decide +kernel
theorem d_W_tag_6 : decode b_W_tag 6 = .ok (.aload_n 2, 1) := by decide +kernel
theorem d_W_tag_7 : decode b_W_tag 7 = .ok (.ifnonnull 7, 3) := by decide +kernel
theorem d_W_tag_10 : decode b_W_tag 10 = .ok (.iconst (-1), 1) := by decide +kernel
theorem d_W_tag_11 : decode b_W_tag 11 = .ok (.goto 11, 3) := by decide +kernel
theorem d_W_tag_14 : decode b_W_tag 14 = .ok (.aload_n 2, 1) := by decide +kernel
theorem d_W_tag_15 : decode b_W_tag 15 = .ok (.getfield 76, 3) := by decide +kernel
theorem d_W_tag_18 : decode b_W_tag 18 = .ok (.iload_n 1, 1) := by decide +kernel
theorem d_W_tag_19 : decode b_W_tag 19 = .ok (.iconst 4, 1) := by decide +kernel
theorem d_W_tag_20 : decode b_W_tag 20 = .ok (.irem, 1) := by decide +kernel
theorem d_W_tag_21 : decode b_W_tag 21 = .ok (.baload, 1) := by decide +kernel
theorem d_W_tag_22 : decode b_W_tag 22 = .ok (.ireturn, 1) := by decide +kernel
theorem d_W_programmed_0 : decode b_W_programmed 0 = .ok (.iload_n 1, 1) := by decide +kernel
theorem d_W_programmed_1 : decode b_W_programmed 1 = .ok (.ifCond .lt 14, 3) := by decide +kernel
theorem d_W_programmed_4 : decode b_W_programmed 4 = .ok (.iload_n 1, 1) := by decide +kernel
theorem d_W_programmed_5 : decode b_W_programmed 5 = .ok (.iconst 4, 1) := by decide +kernel
theorem d_W_programmed_6 : decode b_W_programmed 6 = .ok (.aload_n 0, 1) := by decide +kernel
theorem d_W_programmed_7 : decode b_W_programmed 7 = .ok (.getfield 35, 3) := by decide +kernel
theorem d_W_programmed_10 : decode b_W_programmed 10 = .ok (.arraylength, 1) := by decide +kernel
theorem d_W_programmed_11 : decode b_W_programmed 11 = .ok (.imul, 1) := by decide +kernel
theorem d_W_programmed_12 : decode b_W_programmed 12 = .ok (.if_icmp .lt 5, 3) := by decide +kernel
theorem d_W_programmed_15 : decode b_W_programmed 15 = .ok (.aconst_null, 1) := by decide +kernel
theorem d_W_programmed_16 : decode b_W_programmed 16 = .ok (.areturn, 1) := by decide +kernel
theorem d_W_programmed_17 : decode b_W_programmed 17 = .ok (.aload_n 0, 1) := by decide +kernel
theorem d_W_programmed_18 : decode b_W_programmed 18 = .ok (.getfield 35, 3) := by decide +kernel
theorem d_W_programmed_21 : decode b_W_programmed 21 = .ok (.iload_n 1, 1) := by decide +kernel
theorem d_W_programmed_22 : decode b_W_programmed 22 = .ok (.iconst 4, 1) := by decide +kernel
theorem d_W_programmed_23 : decode b_W_programmed 23 = .ok (.idiv, 1) := by decide +kernel
theorem d_W_programmed_24 : decode b_W_programmed 24 = .ok (.aaload, 1) := by decide +kernel
theorem d_W_programmed_25 : decode b_W_programmed 25 = .ok (.astore_n 2, 1) := by decide +kernel
theorem d_W_programmed_26 : decode b_W_programmed 26 = .ok (.iload_n 1, 1) := by decide +kernel
theorem d_W_programmed_27 : decode b_W_programmed 27 = .ok (.iconst 4, 1) := by decide +kernel
theorem d_W_programmed_28 : decode b_W_programmed 28 = .ok (.irem, 1) := by decide +kernel
theorem d_W_programmed_29 : decode b_W_programmed 29 = .ok (.aload_n 2, 1) := by decide +kernel
theorem d_W_programmed_30 : decode b_W_programmed 30 = .ok (.getfield 73, 3) := by decide +kernel
theorem d_W_programmed_33 : decode b_W_programmed 33 = .ok (.if_icmp .ge 7, 3) := by decide +kernel
theorem d_W_programmed_36 : decode b_W_programmed 36 = .ok (.aload_n 2, 1) := by decide +kernel
theorem d_W_programmed_37 : decode b_W_programmed 37 = .ok (.goto 4, 3) := by decide +kernel
theorem d_W_programmed_40 : decode b_W_programmed 40 = .ok (.aconst_null, 1) := by decide +kernel
theorem d_W_programmed_41 : decode b_W_programmed 41 = .ok (.areturn, 1) := by decide +kernel
theorem d_W_serial_0 : decode b_W_serial 0 = .ok (.aload_n 0, 1) := by decide +kernel
theorem d_W_serial_1 : decode b_W_serial 1 = .ok (.iload_n 1, 1) := by decide +kernel
theorem d_W_serial_2 : decode b_W_serial 2 = .ok (.invokevirtual 180, 3) := by decide +kernel
theorem d_W_serial_5 : decode b_W_serial 5 = .ok (.astore_n 2, 1) := by decide +kernel
theorem d_W_serial_6 : decode b_W_serial 6 = .ok (.aload_n 2, 1) := by decide +kernel
theorem d_W_serial_7 : decode b_W_serial 7 = .ok (.ifnonnull 7, 3) := by decide +kernel
theorem d_W_serial_10 : decode b_W_serial 10 = .ok (.iconst (-1), 1) := by decide +kernel
theorem d_W_serial_11 : decode b_W_serial 11 = .ok (.goto 11, 3) := by decide +kernel
theorem d_W_serial_14 : decode b_W_serial 14 = .ok (.aload_n 2, 1) := by decide +kernel
theorem d_W_serial_15 : decode b_W_serial 15 = .ok (.getfield 87, 3) := by decide +kernel
theorem d_W_serial_18 : decode b_W_serial 18 = .ok (.iload_n 1, 1) := by decide +kernel
theorem d_W_serial_19 : decode b_W_serial 19 = .ok (.iconst 4, 1) := by decide +kernel
theorem d_W_serial_20 : decode b_W_serial 20 = .ok (.irem, 1) := by decide +kernel
theorem d_W_serial_21 : decode b_W_serial 21 = .ok (.iaload, 1) := by decide +kernel
theorem d_W_serial_22 : decode b_W_serial 22 = .ok (.ireturn, 1) := by decide +kernel
theorem d_W_valid_0 : decode b_W_valid 0 = .ok (.aload_n 0, 1) := by decide +kernel
theorem d_W_valid_1 : decode b_W_valid 1 = .ok (.iload_n 1, 1) := by decide +kernel
theorem d_W_valid_2 : decode b_W_valid 2 = .ok (.invokevirtual 184, 3) := by decide +kernel
theorem d_W_valid_5 : decode b_W_valid 5 = .ok (.ifCond .eq 15, 3) := by decide +kernel
theorem d_W_valid_8 : decode b_W_valid 8 = .ok (.aload_n 0, 1) := by decide +kernel
theorem d_W_valid_9 : decode b_W_valid 9 = .ok (.getfield 35, 3) := by decide +kernel
theorem d_W_valid_12 : decode b_W_valid 12 = .ok (.iload_n 1, 1) := by decide +kernel
theorem d_W_valid_13 : decode b_W_valid 13 = .ok (.aaload, 1) := by decide +kernel
theorem d_W_valid_14 : decode b_W_valid 14 = .ok (.getfield 93, 3) := by decide +kernel
theorem d_W_valid_17 : decode b_W_valid 17 = .ok (.goto 4, 3) := by decide +kernel
theorem d_W_valid_20 : decode b_W_valid 20 = .ok (.iconst (-1), 1) := by decide +kernel
theorem d_W_valid_21 : decode b_W_valid 21 = .ok (.ireturn, 1) := by decide +kernel
theorem d_W_isBlock_0 : decode b_W_isBlock 0 = .ok (.iload_n 1, 1) := by decide +kernel
theorem d_W_isBlock_1 : decode b_W_isBlock 1 = .ok (.ifCond .lt 16, 3) := by decide +kernel
theorem d_W_isBlock_4 : decode b_W_isBlock 4 = .ok (.iload_n 1, 1) := by decide +kernel
theorem d_W_isBlock_5 : decode b_W_isBlock 5 = .ok (.aload_n 0, 1) := by decide +kernel
theorem d_W_isBlock_6 : decode b_W_isBlock 6 = .ok (.getfield 35, 3) := by decide +kernel
theorem d_W_isBlock_9 : decode b_W_isBlock 9 = .ok (.arraylength, 1) := by decide +kernel
theorem d_W_isBlock_10 : decode b_W_isBlock 10 = .ok (.if_icmp .ge 7, 3) := by decide +kernel
theorem d_W_isBlock_13 : decode b_W_isBlock 13 = .ok (.iconst 1, 1) := by decide +kernel
theorem d_W_isBlock_14 : decode b_W_isBlock 14 = .ok (.goto 4, 3) := by decide +kernel
theorem d_W_isBlock_17 : decode b_W_isBlock 17 = .ok (.iconst 0, 1) := by decide +kernel
theorem d_W_isBlock_18 : decode b_W_isBlock 18 = .ok (.ireturn, 1) := by decide +kernel
theorem d_W_erasures_0 : decode b_W_erasures 0 = .ok (.aload_n 0, 1) := by decide +kernel
theorem d_W_erasures_1 : decode b_W_erasures 1 = .ok (.iload_n 1, 1) := by decide +kernel
theorem d_W_erasures_2 : decode b_W_erasures 2 = .ok (.invokevirtual 184, 3) := by decide +kernel
theorem d_W_erasures_5 : decode b_W_erasures 5 = .ok (.ifCond .eq 15, 3) := by decide +kernel
theorem d_W_erasures_8 : decode b_W_erasures 8 = .ok (.aload_n 0, 1) := by decide +kernel
theorem d_W_erasures_9 : decode b_W_erasures 9 = .ok (.getfield 35, 3) := by decide +kernel
theorem d_W_erasures_12 : decode b_W_erasures 12 = .ok (.iload_n 1, 1) := by decide +kernel
theorem d_W_erasures_13 : decode b_W_erasures 13 = .ok (.aaload, 1) := by decide +kernel
theorem d_W_erasures_14 : decode b_W_erasures 14 = .ok (.getfield 100, 3) := by decide +kernel
theorem d_W_erasures_17 : decode b_W_erasures 17 = .ok (.goto 4, 3) := by decide +kernel
theorem d_W_erasures_20 : decode b_W_erasures 20 = .ok (.iconst (-1), 1) := by decide +kernel
theorem d_W_erasures_21 : decode b_W_erasures 21 = .ok (.ireturn, 1) := by decide +kernel
theorem d_W_open_0 : decode b_W_open 0 = .ok (.aload_n 0, 1) := by decide +kernel
theorem d_W_open_1 : decode b_W_open 1 = .ok (.getfield 62, 3) := by decide +kernel
theorem d_W_open_4 : decode b_W_open 4 = .ok (.ifnonnull 7, 3) := by decide +kernel
theorem d_W_open_7 : decode b_W_open 7 = .ok (.iconst (-1), 1) := by decide +kernel
theorem d_W_open_8 : decode b_W_open 8 = .ok (.goto 10, 3) := by decide +kernel
theorem d_W_open_11 : decode b_W_open 11 = .ok (.aload_n 0, 1) := by decide +kernel
theorem d_W_open_12 : decode b_W_open 12 = .ok (.getfield 62, 3) := by decide +kernel
theorem d_W_open_15 : decode b_W_open 15 = .ok (.getfield 187, 3) := by decide +kernel
theorem d_W_open_18 : decode b_W_open 18 = .ok (.ireturn, 1) := by decide +kernel
theorem d_W_free_0 : decode b_W_free 0 = .ok (.aload_n 0, 1) := by decide +kernel
theorem d_W_free_1 : decode b_W_free 1 = .ok (.getfield 49, 3) := by decide +kernel
theorem d_W_free_4 : decode b_W_free 4 = .ok (.ireturn, 1) := by decide +kernel
theorem d_W_operations_0 : decode b_W_operations 0 = .ok (.aload_n 0, 1) := by decide +kernel
theorem d_W_operations_1 : decode b_W_operations 1 = .ok (.getfield 59, 3) := by decide +kernel
theorem d_W_operations_4 : decode b_W_operations 4 = .ok (.ireturn, 1) := by decide +kernel
theorem d_L_cell_0 : decode b_L_cell 0 = .ok (.iload_n 1, 1) := by decide +kernel
theorem d_L_cell_1 : decode b_L_cell 1 = .ok (.aload_n 0, 1) := by decide +kernel
theorem d_L_cell_2 : decode b_L_cell 2 = .ok (.arraylength, 1) := by decide +kernel
theorem d_L_cell_3 : decode b_L_cell 3 = .ok (.if_icmp .ge 9, 3) := by decide +kernel
theorem d_L_cell_6 : decode b_L_cell 6 = .ok (.aload_n 0, 1) := by decide +kernel
theorem d_L_cell_7 : decode b_L_cell 7 = .ok (.iload_n 1, 1) := by decide +kernel
theorem d_L_cell_8 : decode b_L_cell 8 = .ok (.iaload, 1) := by decide +kernel
theorem d_L_cell_9 : decode b_L_cell 9 = .ok (.goto 4, 3) := by decide +kernel
theorem d_L_cell_12 : decode b_L_cell 12 = .ok (.iconst 0, 1) := by decide +kernel
theorem d_L_cell_13 : decode b_L_cell 13 = .ok (.ireturn, 1) := by decide +kernel
theorem d_M_init_0 : decode b_M_init 0 = .ok (.aload_n 0, 1) := by decide +kernel
theorem d_M_init_1 : decode b_M_init 1 = .ok (.invokespecial 1, 3) := by decide +kernel
theorem d_M_init_4 : decode b_M_init 4 = .ok (.aload_n 0, 1) := by decide +kernel
theorem d_M_init_5 : decode b_M_init 5 = .ok (.bipush 48, 2) := by decide +kernel
theorem d_M_init_7 : decode b_M_init 7 = .ok (.newarray .int, 2) := by decide +kernel
theorem d_M_init_9 : decode b_M_init 9 = .ok (.putfield 7, 3) := by decide +kernel
end
section
theorem d_M_init_12 : decode b_M_init 12 = .ok (.aload_n 0, 1) := by decide +kernel
theorem d_M_init_13 : decode b_M_init 13 = .ok (.bipush 48, 2) := by decide +kernel
theorem d_M_init_15 : decode b_M_init 15 = .ok (.newarray .int, 2) := by decide +kernel
theorem d_M_init_17 : decode b_M_init 17 = .ok (.putfield 13, 3) := by decide +kernel
theorem d_M_init_20 : decode b_M_init 20 = .ok (.aload_n 0, 1) := by decide +kernel
theorem d_M_init_21 : decode b_M_init 21 = .ok (.bipush 48, 2) := by decide +kernel
theorem d_M_init_23 : decode b_M_init 23 = .ok (.newarray .int, 2) := by decide +kernel
theorem d_M_init_25 : decode b_M_init 25 = .ok (.putfield 16, 3) := by decide +kernel
theorem d_M_init_28 : decode b_M_init 28 = .ok (.aload_n 0, 1) := by decide +kernel
theorem d_M_init_29 : decode b_M_init 29 = .ok (.bipush 48, 2) := by decide +kernel
theorem d_M_init_31 : decode b_M_init 31 = .ok (.newarray .int, 2) := by decide +kernel
theorem d_M_init_33 : decode b_M_init 33 = .ok (.putfield 19, 3) := by decide +kernel
theorem d_M_init_36 : decode b_M_init 36 = .ok (.aload_n 0, 1) := by decide +kernel
theorem d_M_init_37 : decode b_M_init 37 = .ok (.bipush 12, 2) := by decide +kernel
theorem d_M_init_39 : decode b_M_init 39 = .ok (.newarray .int, 2) := by decide +kernel
theorem d_M_init_41 : decode b_M_init 41 = .ok (.putfield 22, 3) := by decide +kernel
theorem d_M_init_44 : decode b_M_init 44 = .ok (.aload_n 0, 1) := by decide +kernel
theorem d_M_init_45 : decode b_M_init 45 = .ok (.iconst (-1), 1) := by decide +kernel
theorem d_M_init_46 : decode b_M_init 46 = .ok (.putfield 25, 3) := by decide +kernel
theorem d_M_init_49 : decode b_M_init 49 = .ok (.aload_n 0, 1) := by decide +kernel
theorem d_M_init_50 : decode b_M_init 50 = .ok (.iconst 3, 1) := by decide +kernel
theorem d_M_init_51 : decode b_M_init 51 = .ok (.newarray .int, 2) := by decide +kernel
theorem d_M_init_53 : decode b_M_init 53 = .ok (.putfield 29, 3) := by decide +kernel
theorem d_M_init_56 : decode b_M_init 56 = .ok (.aload_n 0, 1) := by decide +kernel
theorem d_M_init_57 : decode b_M_init 57 = .ok (.iconst 3, 1) := by decide +kernel
theorem d_M_init_58 : decode b_M_init 58 = .ok (.newarray .int, 2) := by decide +kernel
theorem d_M_init_60 : decode b_M_init 60 = .ok (.putfield 32, 3) := by decide +kernel
theorem d_M_init_63 : decode b_M_init 63 = .ok (.aload_n 0, 1) := by decide +kernel
theorem d_M_init_64 : decode b_M_init 64 = .ok (.iconst 3, 1) := by decide +kernel
theorem d_M_init_65 : decode b_M_init 65 = .ok (.newarray .int, 2) := by decide +kernel
theorem d_M_init_67 : decode b_M_init 67 = .ok (.putfield 35, 3) := by decide +kernel
theorem d_M_init_70 : decode b_M_init 70 = .ok (.aload_n 0, 1) := by decide +kernel
theorem d_M_init_71 : decode b_M_init 71 = .ok (.iload_n 1, 1) := by decide +kernel
theorem d_M_init_72 : decode b_M_init 72 = .ok (.iconst 5, 1) := by decide +kernel
theorem d_M_init_73 : decode b_M_init 73 = .ok (.if_icmp .lt 9, 3) := by decide +kernel
theorem d_M_init_76 : decode b_M_init 76 = .ok (.iload_n 1, 1) := by decide +kernel
theorem d_M_init_77 : decode b_M_init 77 = .ok (.bipush 12, 2) := by decide +kernel
theorem d_M_init_79 : decode b_M_init 79 = .ok (.if_icmp .le 8, 3) := by decide +kernel
theorem d_M_init_82 : decode b_M_init 82 = .ok (.bipush 8, 2) := by decide +kernel
theorem d_M_init_84 : decode b_M_init 84 = .ok (.goto 4, 3) := by decide +kernel
theorem d_M_init_87 : decode b_M_init 87 = .ok (.iload_n 1, 1) := by decide +kernel
theorem d_M_init_88 : decode b_M_init 88 = .ok (.putfield 38, 3) := by decide +kernel
theorem d_M_init_91 : decode b_M_init 91 = .ok (.aload_n 0, 1) := by decide +kernel
theorem d_M_init_92 : decode b_M_init 92 = .ok (.iload_n 2, 1) := by decide +kernel
theorem d_M_init_93 : decode b_M_init 93 = .ok (.iconst 1, 1) := by decide +kernel
theorem d_M_init_94 : decode b_M_init 94 = .ok (.if_icmp .lt 9, 3) := by decide +kernel
theorem d_M_init_97 : decode b_M_init 97 = .ok (.iload_n 2, 1) := by decide +kernel
theorem d_M_init_98 : decode b_M_init 98 = .ok (.bipush 50, 2) := by decide +kernel
theorem d_M_init_100 : decode b_M_init 100 = .ok (.if_icmp .le 7, 3) := by decide +kernel
theorem d_M_init_103 : decode b_M_init 103 = .ok (.iconst 4, 1) := by decide +kernel
theorem d_M_init_104 : decode b_M_init 104 = .ok (.goto 4, 3) := by decide +kernel
theorem d_M_init_107 : decode b_M_init 107 = .ok (.iload_n 2, 1) := by decide +kernel
theorem d_M_init_108 : decode b_M_init 108 = .ok (.putfield 41, 3) := by decide +kernel
theorem d_M_init_111 : decode b_M_init 111 = .ok (.iconst 0, 1) := by decide +kernel
theorem d_M_init_112 : decode b_M_init 112 = .ok (.istore_n 3, 1) := by decide +kernel
theorem d_M_init_113 : decode b_M_init 113 = .ok (.iload_n 3, 1) := by decide +kernel
theorem d_M_init_114 : decode b_M_init 114 = .ok (.bipush 48, 2) := by decide +kernel
theorem d_M_init_116 : decode b_M_init 116 = .ok (.if_icmp .ge 16, 3) := by decide +kernel
theorem d_M_init_119 : decode b_M_init 119 = .ok (.aload_n 0, 1) := by decide +kernel
theorem d_M_init_120 : decode b_M_init 120 = .ok (.getfield 7, 3) := by decide +kernel
theorem d_M_init_123 : decode b_M_init 123 = .ok (.iload_n 3, 1) := by decide +kernel
theorem d_M_init_124 : decode b_M_init 124 = .ok (.iconst (-1), 1) := by decide +kernel
theorem d_M_init_125 : decode b_M_init 125 = .ok (.iastore, 1) := by decide +kernel
theorem d_M_init_126 : decode b_M_init 126 = .ok (.iinc 3 1, 3) := by decide +kernel
theorem d_M_init_129 : decode b_M_init 129 = .ok (.goto (-16), 3) := by decide +kernel
theorem d_M_init_132 : decode b_M_init 132 = .ok (.return_, 1) := by decide +kernel
theorem d_M_sectors_0 : decode b_M_sectors 0 = .ok (.iconst 4, 1) := by decide +kernel
theorem d_M_sectors_1 : decode b_M_sectors 1 = .ok (.aload_n 0, 1) := by decide +kernel
theorem d_M_sectors_2 : decode b_M_sectors 2 = .ok (.getfield 38, 3) := by decide +kernel
theorem d_M_sectors_5 : decode b_M_sectors 5 = .ok (.iconst 3, 1) := by decide +kernel
theorem d_M_sectors_6 : decode b_M_sectors 6 = .ok (.isub, 1) := by decide +kernel
theorem d_M_sectors_7 : decode b_M_sectors 7 = .ok (.imul, 1) := by decide +kernel
theorem d_M_sectors_8 : decode b_M_sectors 8 = .ok (.ireturn, 1) := by decide +kernel
theorem d_M_cut_0 : decode b_M_cut 0 = .ok (.aload_n 0, 1) := by decide +kernel
theorem d_M_cut_1 : decode b_M_cut 1 = .ok (.iconst 1, 1) := by decide +kernel
theorem d_M_cut_2 : decode b_M_cut 2 = .ok (.putfield 66, 3) := by decide +kernel
theorem d_M_cut_5 : decode b_M_cut 5 = .ok (.aload_n 0, 1) := by decide +kernel
theorem d_M_cut_6 : decode b_M_cut 6 = .ok (.getfield 66, 3) := by decide +kernel
theorem d_M_cut_9 : decode b_M_cut 9 = .ok (.ifCond .eq 168, 3) := by decide +kernel
theorem d_M_cut_12 : decode b_M_cut 12 = .ok (.aload_n 0, 1) := by decide +kernel
theorem d_M_cut_13 : decode b_M_cut 13 = .ok (.iconst 0, 1) := by decide +kernel
theorem d_M_cut_14 : decode b_M_cut 14 = .ok (.putfield 66, 3) := by decide +kernel
theorem d_M_cut_17 : decode b_M_cut 17 = .ok (.aload_n 0, 1) := by decide +kernel
theorem d_M_cut_18 : decode b_M_cut 18 = .ok (.iconst 0, 1) := by decide +kernel
theorem d_M_cut_19 : decode b_M_cut 19 = .ok (.putfield 100, 3) := by decide +kernel
theorem d_M_cut_22 : decode b_M_cut 22 = .ok (.aload_n 0, 1) := by decide +kernel
theorem d_M_cut_23 : decode b_M_cut 23 = .ok (.iconst (-1), 1) := by decide +kernel
theorem d_M_cut_24 : decode b_M_cut 24 = .ok (.putfield 25, 3) := by decide +kernel
theorem d_M_cut_27 : decode b_M_cut 27 = .ok (.aload_n 0, 1) := by decide +kernel
theorem d_M_cut_28 : decode b_M_cut 28 = .ok (.iconst 0, 1) := by decide +kernel
theorem d_M_cut_29 : decode b_M_cut 29 = .ok (.putfield 77, 3) := by decide +kernel
theorem d_M_cut_32 : decode b_M_cut 32 = .ok (.iconst 0, 1) := by decide +kernel
theorem d_M_cut_33 : decode b_M_cut 33 = .ok (.istore_n 1, 1) := by decide +kernel
theorem d_M_cut_34 : decode b_M_cut 34 = .ok (.iload_n 1, 1) := by decide +kernel
theorem d_M_cut_35 : decode b_M_cut 35 = .ok (.aload_n 0, 1) := by decide +kernel
theorem d_M_cut_36 : decode b_M_cut 36 = .ok (.getfield 38, 3) := by decide +kernel
theorem d_M_cut_39 : decode b_M_cut 39 = .ok (.if_icmp .ge 36, 3) := by decide +kernel
theorem d_M_cut_42 : decode b_M_cut 42 = .ok (.aload_n 0, 1) := by decide +kernel
theorem d_M_cut_43 : decode b_M_cut 43 = .ok (.iload_n 1, 1) := by decide +kernel
theorem d_M_cut_44 : decode b_M_cut 44 = .ok (.invokevirtual 56, 3) := by decide +kernel
theorem d_M_cut_47 : decode b_M_cut 47 = .ok (.istore_n 2, 1) := by decide +kernel
theorem d_M_cut_48 : decode b_M_cut 48 = .ok (.aload_n 0, 1) := by decide +kernel
theorem d_M_cut_49 : decode b_M_cut 49 = .ok (.iload_n 2, 1) := by decide +kernel
theorem d_M_cut_50 : decode b_M_cut 50 = .ok (.ifCond .le 12, 3) := by decide +kernel
theorem d_M_cut_53 : decode b_M_cut 53 = .ok (.iload_n 2, 1) := by decide +kernel
theorem d_M_cut_54 : decode b_M_cut 54 = .ok (.iconst 4, 1) := by decide +kernel
theorem d_M_cut_55 : decode b_M_cut 55 = .ok (.if_icmp .ge 7, 3) := by decide +kernel
theorem d_M_cut_58 : decode b_M_cut 58 = .ok (.iload_n 1, 1) := by decide +kernel
theorem d_M_cut_59 : decode b_M_cut 59 = .ok (.goto 7, 3) := by decide +kernel
theorem d_M_cut_62 : decode b_M_cut 62 = .ok (.aload_n 0, 1) := by decide +kernel
theorem d_M_cut_63 : decode b_M_cut 63 = .ok (.getfield 25, 3) := by decide +kernel
theorem d_M_cut_66 : decode b_M_cut 66 = .ok (.putfield 25, 3) := by decide +kernel
theorem d_M_cut_69 : decode b_M_cut 69 = .ok (.iinc 1 1, 3) := by decide +kernel
theorem d_M_cut_72 : decode b_M_cut 72 = .ok (.goto (-38), 3) := by decide +kernel
theorem d_M_cut_75 : decode b_M_cut 75 = .ok (.iconst 0, 1) := by decide +kernel
theorem d_M_cut_76 : decode b_M_cut 76 = .ok (.istore_n 1, 1) := by decide +kernel
theorem d_M_cut_77 : decode b_M_cut 77 = .ok (.iload_n 1, 1) := by decide +kernel
theorem d_M_cut_78 : decode b_M_cut 78 = .ok (.iconst 4, 1) := by decide +kernel
theorem d_M_cut_79 : decode b_M_cut 79 = .ok (.aload_n 0, 1) := by decide +kernel
theorem d_M_cut_80 : decode b_M_cut 80 = .ok (.getfield 38, 3) := by decide +kernel
theorem d_M_cut_83 : decode b_M_cut 83 = .ok (.imul, 1) := by decide +kernel
theorem d_M_cut_84 : decode b_M_cut 84 = .ok (.if_icmp .ge 51, 3) := by decide +kernel
theorem d_M_cut_87 : decode b_M_cut 87 = .ok (.aload_n 0, 1) := by decide +kernel
theorem d_M_cut_88 : decode b_M_cut 88 = .ok (.aload_n 0, 1) := by decide +kernel
theorem d_M_cut_89 : decode b_M_cut 89 = .ok (.getfield 7, 3) := by decide +kernel
theorem d_M_cut_92 : decode b_M_cut 92 = .ok (.iload_n 1, 1) := by decide +kernel
theorem d_M_cut_93 : decode b_M_cut 93 = .ok (.iaload, 1) := by decide +kernel
theorem d_M_cut_94 : decode b_M_cut 94 = .ok (.iconst (-1), 1) := by decide +kernel
theorem d_M_cut_95 : decode b_M_cut 95 = .ok (.if_icmp .eq 27, 3) := by decide +kernel
theorem d_M_cut_98 : decode b_M_cut 98 = .ok (.aload_n 0, 1) := by decide +kernel
theorem d_M_cut_99 : decode b_M_cut 99 = .ok (.getfield 16, 3) := by decide +kernel
theorem d_M_cut_102 : decode b_M_cut 102 = .ok (.iload_n 1, 1) := by decide +kernel
theorem d_M_cut_103 : decode b_M_cut 103 = .ok (.iaload, 1) := by decide +kernel
theorem d_M_cut_104 : decode b_M_cut 104 = .ok (.aload_n 0, 1) := by decide +kernel
theorem d_M_cut_105 : decode b_M_cut 105 = .ok (.getfield 77, 3) := by decide +kernel
theorem d_M_cut_108 : decode b_M_cut 108 = .ok (.if_icmp .lt 14, 3) := by decide +kernel
theorem d_M_cut_111 : decode b_M_cut 111 = .ok (.aload_n 0, 1) := by decide +kernel
theorem d_M_cut_112 : decode b_M_cut 112 = .ok (.getfield 16, 3) := by decide +kernel
theorem d_M_cut_115 : decode b_M_cut 115 = .ok (.iload_n 1, 1) := by decide +kernel
theorem d_M_cut_116 : decode b_M_cut 116 = .ok (.iaload, 1) := by decide +kernel
theorem d_M_cut_117 : decode b_M_cut 117 = .ok (.iconst 1, 1) := by decide +kernel
theorem d_M_cut_118 : decode b_M_cut 118 = .ok (.iadd, 1) := by decide +kernel
theorem d_M_cut_119 : decode b_M_cut 119 = .ok (.goto 7, 3) := by decide +kernel
theorem d_M_cut_122 : decode b_M_cut 122 = .ok (.aload_n 0, 1) := by decide +kernel
theorem d_M_cut_123 : decode b_M_cut 123 = .ok (.getfield 77, 3) := by decide +kernel
theorem d_M_cut_126 : decode b_M_cut 126 = .ok (.putfield 77, 3) := by decide +kernel
theorem d_M_cut_129 : decode b_M_cut 129 = .ok (.iinc 1 1, 3) := by decide +kernel
theorem d_M_cut_132 : decode b_M_cut 132 = .ok (.goto (-55), 3) := by decide +kernel
theorem d_M_cut_135 : decode b_M_cut 135 = .ok (.aload_n 0, 1) := by decide +kernel
theorem d_M_cut_136 : decode b_M_cut 136 = .ok (.invokevirtual 84, 3) := by decide +kernel
theorem d_M_cut_139 : decode b_M_cut 139 = .ok (.ifCond .gt 16, 3) := by decide +kernel
theorem d_M_cut_142 : decode b_M_cut 142 = .ok (.aload_n 0, 1) := by decide +kernel
theorem d_M_cut_143 : decode b_M_cut 143 = .ok (.aload_n 0, 1) := by decide +kernel
theorem d_M_cut_144 : decode b_M_cut 144 = .ok (.iconst 4, 1) := by decide +kernel
theorem d_M_cut_145 : decode b_M_cut 145 = .ok (.iconst 1, 1) := by decide +kernel
theorem d_M_cut_146 : decode b_M_cut 146 = .ok (.invokevirtual 87, 3) := by decide +kernel
theorem d_M_cut_149 : decode b_M_cut 149 = .ok (.invokevirtual 94, 3) := by decide +kernel
theorem d_M_cut_152 : decode b_M_cut 152 = .ok (.ifCond .eq 7, 3) := by decide +kernel
theorem d_M_cut_155 : decode b_M_cut 155 = .ok (.iconst 1, 1) := by decide +kernel
theorem d_M_cut_156 : decode b_M_cut 156 = .ok (.goto 4, 3) := by decide +kernel
theorem d_M_cut_159 : decode b_M_cut 159 = .ok (.iconst 0, 1) := by decide +kernel
theorem d_M_cut_160 : decode b_M_cut 160 = .ok (.istore_n 1, 1) := by decide +kernel
theorem d_M_cut_161 : decode b_M_cut 161 = .ok (.aload_n 0, 1) := by decide +kernel
theorem d_M_cut_162 : decode b_M_cut 162 = .ok (.iload_n 1, 1) := by decide +kernel
theorem d_M_cut_163 : decode b_M_cut 163 = .ok (.ifCond .ne 7, 3) := by decide +kernel
theorem d_M_cut_166 : decode b_M_cut 166 = .ok (.iconst 1, 1) := by decide +kernel
theorem d_M_cut_167 : decode b_M_cut 167 = .ok (.goto 4, 3) := by decide +kernel
theorem d_M_cut_170 : decode b_M_cut 170 = .ok (.iconst 0, 1) := by decide +kernel
theorem d_M_cut_171 : decode b_M_cut 171 = .ok (.putfield 66, 3) := by decide +kernel
theorem d_M_cut_174 : decode b_M_cut 174 = .ok (.goto (-169), 3) := by decide +kernel
theorem d_M_cut_177 : decode b_M_cut 177 = .ok (.return_, 1) := by decide +kernel
theorem d_M_programmed_0 : decode b_M_programmed 0 = .ok (.iconst 0, 1) := by decide +kernel
theorem d_M_programmed_1 : decode b_M_programmed 1 = .ok (.istore_n 2, 1) := by decide +kernel
theorem d_M_programmed_2 : decode b_M_programmed 2 = .ok (.iconst 0, 1) := by decide +kernel
theorem d_M_programmed_3 : decode b_M_programmed 3 = .ok (.istore_n 3, 1) := by decide +kernel
theorem d_M_programmed_4 : decode b_M_programmed 4 = .ok (.iload_n 3, 1) := by decide +kernel
theorem d_M_programmed_5 : decode b_M_programmed 5 = .ok (.iconst 4, 1) := by decide +kernel
theorem d_M_programmed_6 : decode b_M_programmed 6 = .ok (.if_icmp .ge 31, 3) := by decide +kernel
theorem d_M_programmed_9 : decode b_M_programmed 9 = .ok (.iload_n 2, 1) := by decide +kernel
theorem d_M_programmed_10 : decode b_M_programmed 10 = .ok (.aload_n 0, 1) := by decide +kernel
theorem d_M_programmed_11 : decode b_M_programmed 11 = .ok (.getfield 7, 3) := by decide +kernel
theorem d_M_programmed_14 : decode b_M_programmed 14 = .ok (.iconst 4, 1) := by decide +kernel
theorem d_M_programmed_15 : decode b_M_programmed 15 = .ok (.iload_n 1, 1) := by decide +kernel
theorem d_M_programmed_16 : decode b_M_programmed 16 = .ok (.imul, 1) := by decide +kernel
theorem d_M_programmed_17 : decode b_M_programmed 17 = .ok (.iload_n 3, 1) := by decide +kernel
theorem d_M_programmed_18 : decode b_M_programmed 18 = .ok (.iadd, 1) := by decide +kernel
theorem d_M_programmed_19 : decode b_M_programmed 19 = .ok (.iaload, 1) := by decide +kernel
theorem d_M_programmed_20 : decode b_M_programmed 20 = .ok (.iconst (-1), 1) := by decide +kernel
theorem d_M_programmed_21 : decode b_M_programmed 21 = .ok (.if_icmp .ne 7, 3) := by decide +kernel
theorem d_M_programmed_24 : decode b_M_programmed 24 = .ok (.iconst 0, 1) := by decide +kernel
theorem d_M_programmed_25 : decode b_M_programmed 25 = .ok (.goto 4, 3) := by decide +kernel
theorem d_M_programmed_28 : decode b_M_programmed 28 = .ok (.iconst 1, 1) := by decide +kernel
theorem d_M_programmed_29 : decode b_M_programmed 29 = .ok (.iadd, 1) := by decide +kernel
theorem d_M_programmed_30 : decode b_M_programmed 30 = .ok (.istore_n 2, 1) := by decide +kernel
theorem d_M_programmed_31 : decode b_M_programmed 31 = .ok (.iinc 3 1, 3) := by decide +kernel
theorem d_M_programmed_34 : decode b_M_programmed 34 = .ok (.goto (-30), 3) := by decide +kernel
theorem d_M_programmed_37 : decode b_M_programmed 37 = .ok (.iload_n 2, 1) := by decide +kernel
theorem d_M_programmed_38 : decode b_M_programmed 38 = .ok (.ireturn, 1) := by decide +kernel
theorem d_M_freeBlocks_0 : decode b_M_freeBlocks 0 = .ok (.iconst 0, 1) := by decide +kernel
theorem d_M_freeBlocks_1 : decode b_M_freeBlocks 1 = .ok (.istore_n 1, 1) := by decide +kernel
theorem d_M_freeBlocks_2 : decode b_M_freeBlocks 2 = .ok (.iconst 0, 1) := by decide +kernel
theorem d_M_freeBlocks_3 : decode b_M_freeBlocks 3 = .ok (.istore_n 2, 1) := by decide +kernel
theorem d_M_freeBlocks_4 : decode b_M_freeBlocks 4 = .ok (.iload_n 2, 1) := by decide +kernel
theorem d_M_freeBlocks_5 : decode b_M_freeBlocks 5 = .ok (.aload_n 0, 1) := by decide +kernel
theorem d_M_freeBlocks_6 : decode b_M_freeBlocks 6 = .ok (.getfield 38, 3) := by decide +kernel
theorem d_M_freeBlocks_9 : decode b_M_freeBlocks 9 = .ok (.if_icmp .ge 25, 3) := by decide +kernel
theorem d_M_freeBlocks_12 : decode b_M_freeBlocks 12 = .ok (.iload_n 1, 1) := by decide +kernel
theorem d_M_freeBlocks_13 : decode b_M_freeBlocks 13 = .ok (.aload_n 0, 1) := by decide +kernel
theorem d_M_freeBlocks_14 : decode b_M_freeBlocks 14 = .ok (.iload_n 2, 1) := by decide +kernel
theorem d_M_freeBlocks_15 : decode b_M_freeBlocks 15 = .ok (.invokevirtual 56, 3) := by decide +kernel
theorem d_M_freeBlocks_18 : decode b_M_freeBlocks 18 = .ok (.ifCond .ne 7, 3) := by decide +kernel
theorem d_M_freeBlocks_21 : decode b_M_freeBlocks 21 = .ok (.iconst 1, 1) := by decide +kernel
theorem d_M_freeBlocks_22 : decode b_M_freeBlocks 22 = .ok (.goto 4, 3) := by decide +kernel
theorem d_M_freeBlocks_25 : decode b_M_freeBlocks 25 = .ok (.iconst 0, 1) := by decide +kernel
theorem d_M_freeBlocks_26 : decode b_M_freeBlocks 26 = .ok (.iadd, 1) := by decide +kernel
theorem d_M_freeBlocks_27 : decode b_M_freeBlocks 27 = .ok (.istore_n 1, 1) := by decide +kernel
theorem d_M_freeBlocks_28 : decode b_M_freeBlocks 28 = .ok (.iinc 2 1, 3) := by decide +kernel
theorem d_M_freeBlocks_31 : decode b_M_freeBlocks 31 = .ok (.goto (-27), 3) := by decide +kernel
theorem d_M_freeBlocks_34 : decode b_M_freeBlocks 34 = .ok (.iload_n 1, 1) := by decide +kernel
theorem d_M_freeBlocks_35 : decode b_M_freeBlocks 35 = .ok (.ireturn, 1) := by decide +kernel
theorem d_M_pick_0 : decode b_M_pick 0 = .ok (.iconst (-1), 1) := by decide +kernel
theorem d_M_pick_1 : decode b_M_pick 1 = .ok (.istore_n 3, 1) := by decide +kernel
theorem d_M_pick_2 : decode b_M_pick 2 = .ok (.iconst 0, 1) := by decide +kernel
theorem d_M_pick_3 : decode b_M_pick 3 = .ok (.istore 4, 2) := by decide +kernel
theorem d_M_pick_5 : decode b_M_pick 5 = .ok (.iconst 0, 1) := by decide +kernel
theorem d_M_pick_6 : decode b_M_pick 6 = .ok (.istore 5, 2) := by decide +kernel
theorem d_M_pick_8 : decode b_M_pick 8 = .ok (.iload 5, 2) := by decide +kernel
theorem d_M_pick_10 : decode b_M_pick 10 = .ok (.aload_n 0, 1) := by decide +kernel
theorem d_M_pick_11 : decode b_M_pick 11 = .ok (.getfield 38, 3) := by decide +kernel
theorem d_M_pick_14 : decode b_M_pick 14 = .ok (.if_icmp .ge 65, 3) := by decide +kernel
theorem d_M_pick_17 : decode b_M_pick 17 = .ok (.aload_n 0, 1) := by decide +kernel
theorem d_M_pick_18 : decode b_M_pick 18 = .ok (.getfield 22, 3) := by decide +kernel
theorem d_M_pick_21 : decode b_M_pick 21 = .ok (.iload 5, 2) := by decide +kernel
theorem d_M_pick_23 : decode b_M_pick 23 = .ok (.iaload, 1) := by decide +kernel
theorem d_M_pick_24 : decode b_M_pick 24 = .ok (.iload_n 2, 1) := by decide +kernel
theorem d_M_pick_25 : decode b_M_pick 25 = .ok (.ifCond .eq 15, 3) := by decide +kernel
theorem d_M_pick_28 : decode b_M_pick 28 = .ok (.ldc 59, 2) := by decide +kernel
theorem d_M_pick_30 : decode b_M_pick 30 = .ok (.aload_n 0, 1) := by decide +kernel
theorem d_M_pick_31 : decode b_M_pick 31 = .ok (.iload 5, 2) := by decide +kernel
theorem d_M_pick_33 : decode b_M_pick 33 = .ok (.invokevirtual 60, 3) := by decide +kernel
theorem d_M_pick_36 : decode b_M_pick 36 = .ok (.imul, 1) := by decide +kernel
theorem d_M_pick_37 : decode b_M_pick 37 = .ok (.goto 4, 3) := by decide +kernel
theorem d_M_pick_40 : decode b_M_pick 40 = .ok (.iconst 0, 1) := by decide +kernel
theorem d_M_pick_41 : decode b_M_pick 41 = .ok (.iadd, 1) := by decide +kernel
theorem d_M_pick_42 : decode b_M_pick 42 = .ok (.istore 6, 2) := by decide +kernel
theorem d_M_pick_44 : decode b_M_pick 44 = .ok (.aload_n 0, 1) := by decide +kernel
theorem d_M_pick_45 : decode b_M_pick 45 = .ok (.iload 5, 2) := by decide +kernel
theorem d_M_pick_47 : decode b_M_pick 47 = .ok (.invokevirtual 56, 3) := by decide +kernel
theorem d_M_pick_50 : decode b_M_pick 50 = .ok (.iload_n 1, 1) := by decide +kernel
theorem d_M_pick_51 : decode b_M_pick 51 = .ok (.if_icmp .ne 22, 3) := by decide +kernel
theorem d_M_pick_54 : decode b_M_pick 54 = .ok (.iload_n 3, 1) := by decide +kernel
theorem d_M_pick_55 : decode b_M_pick 55 = .ok (.iconst (-1), 1) := by decide +kernel
theorem d_M_pick_56 : decode b_M_pick 56 = .ok (.if_icmp .eq 10, 3) := by decide +kernel
theorem d_M_pick_59 : decode b_M_pick 59 = .ok (.iload 6, 2) := by decide +kernel
theorem d_M_pick_61 : decode b_M_pick 61 = .ok (.iload 4, 2) := by decide +kernel
theorem d_M_pick_63 : decode b_M_pick 63 = .ok (.if_icmp .ge 10, 3) := by decide +kernel
theorem d_M_pick_66 : decode b_M_pick 66 = .ok (.iload 5, 2) := by decide +kernel
theorem d_M_pick_68 : decode b_M_pick 68 = .ok (.istore_n 3, 1) := by decide +kernel
theorem d_M_pick_69 : decode b_M_pick 69 = .ok (.iload 6, 2) := by decide +kernel
theorem d_M_pick_71 : decode b_M_pick 71 = .ok (.istore 4, 2) := by decide +kernel
theorem d_M_pick_73 : decode b_M_pick 73 = .ok (.iinc 5 1, 3) := by decide +kernel
theorem d_M_pick_76 : decode b_M_pick 76 = .ok (.goto (-68), 3) := by decide +kernel
theorem d_M_pick_79 : decode b_M_pick 79 = .ok (.iload_n 3, 1) := by decide +kernel
theorem d_M_pick_80 : decode b_M_pick 80 = .ok (.ireturn, 1) := by decide +kernel
theorem d_M_validIn_0 : decode b_M_validIn 0 = .ok (.iconst 0, 1) := by decide +kernel
theorem d_M_validIn_1 : decode b_M_validIn 1 = .ok (.istore_n 2, 1) := by decide +kernel
theorem d_M_validIn_2 : decode b_M_validIn 2 = .ok (.iconst 0, 1) := by decide +kernel
theorem d_M_validIn_3 : decode b_M_validIn 3 = .ok (.istore_n 3, 1) := by decide +kernel
theorem d_M_validIn_4 : decode b_M_validIn 4 = .ok (.iload_n 3, 1) := by decide +kernel
theorem d_M_validIn_5 : decode b_M_validIn 5 = .ok (.iconst 4, 1) := by decide +kernel
theorem d_M_validIn_6 : decode b_M_validIn 6 = .ok (.if_icmp .ge 29, 3) := by decide +kernel
theorem d_M_validIn_9 : decode b_M_validIn 9 = .ok (.iload_n 2, 1) := by decide +kernel
theorem d_M_validIn_10 : decode b_M_validIn 10 = .ok (.aload_n 0, 1) := by decide +kernel
theorem d_M_validIn_11 : decode b_M_validIn 11 = .ok (.iconst 4, 1) := by decide +kernel
theorem d_M_validIn_12 : decode b_M_validIn 12 = .ok (.iload_n 1, 1) := by decide +kernel
theorem d_M_validIn_13 : decode b_M_validIn 13 = .ok (.imul, 1) := by decide +kernel
theorem d_M_validIn_14 : decode b_M_validIn 14 = .ok (.iload_n 3, 1) := by decide +kernel
theorem d_M_validIn_15 : decode b_M_validIn 15 = .ok (.iadd, 1) := by decide +kernel
theorem d_M_validIn_16 : decode b_M_validIn 16 = .ok (.invokevirtual 52, 3) := by decide +kernel
theorem d_M_validIn_19 : decode b_M_validIn 19 = .ok (.ifCond .eq 7, 3) := by decide +kernel
theorem d_M_validIn_22 : decode b_M_validIn 22 = .ok (.iconst 1, 1) := by decide +kernel
theorem d_M_validIn_23 : decode b_M_validIn 23 = .ok (.goto 4, 3) := by decide +kernel
theorem d_M_validIn_26 : decode b_M_validIn 26 = .ok (.iconst 0, 1) := by decide +kernel
theorem d_M_validIn_27 : decode b_M_validIn 27 = .ok (.iadd, 1) := by decide +kernel
theorem d_M_validIn_28 : decode b_M_validIn 28 = .ok (.istore_n 2, 1) := by decide +kernel
theorem d_M_validIn_29 : decode b_M_validIn 29 = .ok (.iinc 3 1, 3) := by decide +kernel
theorem d_M_validIn_32 : decode b_M_validIn 32 = .ok (.goto (-28), 3) := by decide +kernel
theorem d_M_validIn_35 : decode b_M_validIn 35 = .ok (.iload_n 2, 1) := by decide +kernel
theorem d_M_validIn_36 : decode b_M_validIn 36 = .ok (.ireturn, 1) := by decide +kernel
theorem d_M_isValid_0 : decode b_M_isValid 0 = .ok (.aload_n 0, 1) := by decide +kernel
theorem d_M_isValid_1 : decode b_M_isValid 1 = .ok (.getfield 7, 3) := by decide +kernel
theorem d_M_isValid_4 : decode b_M_isValid 4 = .ok (.iload_n 1, 1) := by decide +kernel
theorem d_M_isValid_5 : decode b_M_isValid 5 = .ok (.iaload, 1) := by decide +kernel
theorem d_M_isValid_6 : decode b_M_isValid 6 = .ok (.iconst (-1), 1) := by decide +kernel
theorem d_M_isValid_7 : decode b_M_isValid 7 = .ok (.if_icmp .eq 21, 3) := by decide +kernel
theorem d_M_isValid_10 : decode b_M_isValid 10 = .ok (.aload_n 0, 1) := by decide +kernel
theorem d_M_isValid_11 : decode b_M_isValid 11 = .ok (.aload_n 0, 1) := by decide +kernel
theorem d_M_isValid_12 : decode b_M_isValid 12 = .ok (.getfield 7, 3) := by decide +kernel
theorem d_M_isValid_15 : decode b_M_isValid 15 = .ok (.iload_n 1, 1) := by decide +kernel
theorem d_M_isValid_16 : decode b_M_isValid 16 = .ok (.iaload, 1) := by decide +kernel
theorem d_M_isValid_17 : decode b_M_isValid 17 = .ok (.invokevirtual 48, 3) := by decide +kernel
theorem d_M_isValid_20 : decode b_M_isValid 20 = .ok (.iload_n 1, 1) := by decide +kernel
theorem d_M_isValid_21 : decode b_M_isValid 21 = .ok (.if_icmp .ne 7, 3) := by decide +kernel
theorem d_M_isValid_24 : decode b_M_isValid 24 = .ok (.iconst 1, 1) := by decide +kernel
theorem d_M_isValid_25 : decode b_M_isValid 25 = .ok (.goto 4, 3) := by decide +kernel
theorem d_M_isValid_28 : decode b_M_isValid 28 = .ok (.iconst 0, 1) := by decide +kernel
theorem d_M_isValid_29 : decode b_M_isValid 29 = .ok (.ireturn, 1) := by decide +kernel
theorem d_M_newest_0 : decode b_M_newest 0 = .ok (.iconst (-1), 1) := by decide +kernel
theorem d_M_newest_1 : decode b_M_newest 1 = .ok (.istore_n 2, 1) := by decide +kernel
theorem d_M_newest_2 : decode b_M_newest 2 = .ok (.iconst 0, 1) := by decide +kernel
theorem d_M_newest_3 : decode b_M_newest 3 = .ok (.istore_n 3, 1) := by decide +kernel
theorem d_M_newest_4 : decode b_M_newest 4 = .ok (.iload_n 3, 1) := by decide +kernel
theorem d_M_newest_5 : decode b_M_newest 5 = .ok (.iconst 4, 1) := by decide +kernel
theorem d_M_newest_6 : decode b_M_newest 6 = .ok (.aload_n 0, 1) := by decide +kernel
theorem d_M_newest_7 : decode b_M_newest 7 = .ok (.getfield 38, 3) := by decide +kernel
theorem d_M_newest_10 : decode b_M_newest 10 = .ok (.imul, 1) := by decide +kernel
theorem d_M_newest_11 : decode b_M_newest 11 = .ok (.if_icmp .ge 41, 3) := by decide +kernel
theorem d_M_newest_14 : decode b_M_newest 14 = .ok (.aload_n 0, 1) := by decide +kernel
theorem d_M_newest_15 : decode b_M_newest 15 = .ok (.getfield 7, 3) := by decide +kernel
theorem d_M_newest_18 : decode b_M_newest 18 = .ok (.iload_n 3, 1) := by decide +kernel
theorem d_M_newest_19 : decode b_M_newest 19 = .ok (.iaload, 1) := by decide +kernel
theorem d_M_newest_20 : decode b_M_newest 20 = .ok (.iload_n 1, 1) := by decide +kernel
theorem d_M_newest_21 : decode b_M_newest 21 = .ok (.if_icmp .ne 25, 3) := by decide +kernel
theorem d_M_newest_24 : decode b_M_newest 24 = .ok (.iload_n 2, 1) := by decide +kernel
theorem d_M_newest_25 : decode b_M_newest 25 = .ok (.iconst (-1), 1) := by decide +kernel
theorem d_M_newest_26 : decode b_M_newest 26 = .ok (.if_icmp .eq 18, 3) := by decide +kernel
theorem d_M_newest_29 : decode b_M_newest 29 = .ok (.aload_n 0, 1) := by decide +kernel
theorem d_M_newest_30 : decode b_M_newest 30 = .ok (.getfield 16, 3) := by decide +kernel
theorem d_M_newest_33 : decode b_M_newest 33 = .ok (.iload_n 3, 1) := by decide +kernel
theorem d_M_newest_34 : decode b_M_newest 34 = .ok (.iaload, 1) := by decide +kernel
theorem d_M_newest_35 : decode b_M_newest 35 = .ok (.aload_n 0, 1) := by decide +kernel
theorem d_M_newest_36 : decode b_M_newest 36 = .ok (.getfield 16, 3) := by decide +kernel
theorem d_M_newest_39 : decode b_M_newest 39 = .ok (.iload_n 2, 1) := by decide +kernel
theorem d_M_newest_40 : decode b_M_newest 40 = .ok (.iaload, 1) := by decide +kernel
theorem d_M_newest_41 : decode b_M_newest 41 = .ok (.if_icmp .le 5, 3) := by decide +kernel
theorem d_M_newest_44 : decode b_M_newest 44 = .ok (.iload_n 3, 1) := by decide +kernel
theorem d_M_newest_45 : decode b_M_newest 45 = .ok (.istore_n 2, 1) := by decide +kernel
theorem d_M_newest_46 : decode b_M_newest 46 = .ok (.iinc 3 1, 3) := by decide +kernel
theorem d_M_newest_49 : decode b_M_newest 49 = .ok (.goto (-45), 3) := by decide +kernel
theorem d_M_newest_52 : decode b_M_newest 52 = .ok (.iload_n 2, 1) := by decide +kernel
theorem d_M_newest_53 : decode b_M_newest 53 = .ok (.ireturn, 1) := by decide +kernel
theorem d_M_collect_0 : decode b_M_collect 0 = .ok (.iconst 4, 1) := by decide +kernel
theorem d_M_collect_1 : decode b_M_collect 1 = .ok (.iload_n 1, 1) := by decide +kernel
theorem d_M_collect_2 : decode b_M_collect 2 = .ok (.imul, 1) := by decide +kernel
theorem d_M_collect_3 : decode b_M_collect 3 = .ok (.istore_n 2, 1) := by decide +kernel
theorem d_M_collect_4 : decode b_M_collect 4 = .ok (.iload_n 2, 1) := by decide +kernel
theorem d_M_collect_5 : decode b_M_collect 5 = .ok (.iconst 4, 1) := by decide +kernel
theorem d_M_collect_6 : decode b_M_collect 6 = .ok (.iload_n 1, 1) := by decide +kernel
theorem d_M_collect_7 : decode b_M_collect 7 = .ok (.imul, 1) := by decide +kernel
theorem d_M_collect_8 : decode b_M_collect 8 = .ok (.iconst 4, 1) := by decide +kernel
theorem d_M_collect_9 : decode b_M_collect 9 = .ok (.iadd, 1) := by decide +kernel
theorem d_M_collect_10 : decode b_M_collect 10 = .ok (.if_icmp .ge 44, 3) := by decide +kernel
theorem d_M_collect_13 : decode b_M_collect 13 = .ok (.aload_n 0, 1) := by decide +kernel
theorem d_M_collect_14 : decode b_M_collect 14 = .ok (.iload_n 2, 1) := by decide +kernel
theorem d_M_collect_15 : decode b_M_collect 15 = .ok (.invokevirtual 52, 3) := by decide +kernel
theorem d_M_collect_18 : decode b_M_collect 18 = .ok (.ifCond .eq 30, 3) := by decide +kernel
theorem d_M_collect_21 : decode b_M_collect 21 = .ok (.aload_n 0, 1) := by decide +kernel
theorem d_M_collect_22 : decode b_M_collect 22 = .ok (.aload_n 0, 1) := by decide +kernel
theorem d_M_collect_23 : decode b_M_collect 23 = .ok (.getfield 7, 3) := by decide +kernel
theorem d_M_collect_26 : decode b_M_collect 26 = .ok (.iload_n 2, 1) := by decide +kernel
theorem d_M_collect_27 : decode b_M_collect 27 = .ok (.iaload, 1) := by decide +kernel
theorem d_M_collect_28 : decode b_M_collect 28 = .ok (.aload_n 0, 1) := by decide +kernel
theorem d_M_collect_29 : decode b_M_collect 29 = .ok (.getfield 13, 3) := by decide +kernel
theorem d_M_collect_32 : decode b_M_collect 32 = .ok (.iload_n 2, 1) := by decide +kernel
theorem d_M_collect_33 : decode b_M_collect 33 = .ok (.iaload, 1) := by decide +kernel
theorem d_M_collect_34 : decode b_M_collect 34 = .ok (.aload_n 0, 1) := by decide +kernel
theorem d_M_collect_35 : decode b_M_collect 35 = .ok (.getfield 19, 3) := by decide +kernel
theorem d_M_collect_38 : decode b_M_collect 38 = .ok (.iload_n 2, 1) := by decide +kernel
theorem d_M_collect_39 : decode b_M_collect 39 = .ok (.iaload, 1) := by decide +kernel
theorem d_M_collect_40 : decode b_M_collect 40 = .ok (.invokevirtual 80, 3) := by decide +kernel
theorem d_M_collect_43 : decode b_M_collect 43 = .ok (.ifCond .ne 5, 3) := by decide +kernel
theorem d_M_collect_46 : decode b_M_collect 46 = .ok (.iconst 0, 1) := by decide +kernel
theorem d_M_collect_47 : decode b_M_collect 47 = .ok (.ireturn, 1) := by decide +kernel
theorem d_M_collect_48 : decode b_M_collect 48 = .ok (.iinc 2 1, 3) := by decide +kernel
theorem d_M_collect_51 : decode b_M_collect 51 = .ok (.goto (-47), 3) := by decide +kernel
theorem d_M_collect_54 : decode b_M_collect 54 = .ok (.aload_n 0, 1) := by decide +kernel
theorem d_M_collect_55 : decode b_M_collect 55 = .ok (.invokevirtual 73, 3) := by decide +kernel
theorem d_M_collect_58 : decode b_M_collect 58 = .ok (.ifCond .ne 5, 3) := by decide +kernel
theorem d_M_collect_61 : decode b_M_collect 61 = .ok (.iconst 0, 1) := by decide +kernel
theorem d_M_collect_62 : decode b_M_collect 62 = .ok (.ireturn, 1) := by decide +kernel
theorem d_M_collect_63 : decode b_M_collect 63 = .ok (.iconst 4, 1) := by decide +kernel
theorem d_M_collect_64 : decode b_M_collect 64 = .ok (.iload_n 1, 1) := by decide +kernel
theorem d_M_collect_65 : decode b_M_collect 65 = .ok (.imul, 1) := by decide +kernel
theorem d_M_collect_66 : decode b_M_collect 66 = .ok (.istore_n 2, 1) := by decide +kernel
theorem d_M_collect_67 : decode b_M_collect 67 = .ok (.iload_n 2, 1) := by decide +kernel
theorem d_M_collect_68 : decode b_M_collect 68 = .ok (.iconst 4, 1) := by decide +kernel
theorem d_M_collect_69 : decode b_M_collect 69 = .ok (.iload_n 1, 1) := by decide +kernel
theorem d_M_collect_70 : decode b_M_collect 70 = .ok (.imul, 1) := by decide +kernel
theorem d_M_collect_71 : decode b_M_collect 71 = .ok (.iconst 4, 1) := by decide +kernel
theorem d_M_collect_72 : decode b_M_collect 72 = .ok (.iadd, 1) := by decide +kernel
theorem d_M_collect_73 : decode b_M_collect 73 = .ok (.if_icmp .ge 16, 3) := by decide +kernel
theorem d_M_collect_76 : decode b_M_collect 76 = .ok (.aload_n 0, 1) := by decide +kernel
theorem d_M_collect_77 : decode b_M_collect 77 = .ok (.getfield 7, 3) := by decide +kernel
theorem d_M_collect_80 : decode b_M_collect 80 = .ok (.iload_n 2, 1) := by decide +kernel
theorem d_M_collect_81 : decode b_M_collect 81 = .ok (.iconst (-1), 1) := by decide +kernel
theorem d_M_collect_82 : decode b_M_collect 82 = .ok (.iastore, 1) := by decide +kernel
theorem d_M_collect_83 : decode b_M_collect 83 = .ok (.iinc 2 1, 3) := by decide +kernel
theorem d_M_collect_86 : decode b_M_collect 86 = .ok (.goto (-19), 3) := by decide +kernel
theorem d_M_collect_89 : decode b_M_collect 89 = .ok (.aload_n 0, 1) := by decide +kernel
theorem d_M_collect_90 : decode b_M_collect 90 = .ok (.getfield 22, 3) := by decide +kernel
theorem d_M_collect_93 : decode b_M_collect 93 = .ok (.iload_n 1, 1) := by decide +kernel
theorem d_M_collect_94 : decode b_M_collect 94 = .ok (.dup2, 1) := by decide +kernel
theorem d_M_collect_95 : decode b_M_collect 95 = .ok (.iaload, 1) := by decide +kernel
theorem d_M_collect_96 : decode b_M_collect 96 = .ok (.iconst 1, 1) := by decide +kernel
theorem d_M_collect_97 : decode b_M_collect 97 = .ok (.iadd, 1) := by decide +kernel
theorem d_M_collect_98 : decode b_M_collect 98 = .ok (.iastore, 1) := by decide +kernel
theorem d_M_collect_99 : decode b_M_collect 99 = .ok (.iconst 1, 1) := by decide +kernel
theorem d_M_collect_100 : decode b_M_collect 100 = .ok (.ireturn, 1) := by decide +kernel
theorem d_M_put_0 : decode b_M_put 0 = .ok (.iconst 4, 1) := by decide +kernel
theorem d_M_put_1 : decode b_M_put 1 = .ok (.aload_n 0, 1) := by decide +kernel
theorem d_M_put_2 : decode b_M_put 2 = .ok (.getfield 25, 3) := by decide +kernel
theorem d_M_put_5 : decode b_M_put 5 = .ok (.imul, 1) := by decide +kernel
theorem d_M_put_6 : decode b_M_put 6 = .ok (.istore 4, 2) := by decide +kernel
theorem d_M_put_8 : decode b_M_put 8 = .ok (.iload 4, 2) := by decide +kernel
theorem d_M_put_10 : decode b_M_put 10 = .ok (.iconst 4, 1) := by decide +kernel
theorem d_M_put_11 : decode b_M_put 11 = .ok (.aload_n 0, 1) := by decide +kernel
theorem d_M_put_12 : decode b_M_put 12 = .ok (.getfield 25, 3) := by decide +kernel
theorem d_M_put_15 : decode b_M_put 15 = .ok (.imul, 1) := by decide +kernel
theorem d_M_put_16 : decode b_M_put 16 = .ok (.iconst 3, 1) := by decide +kernel
theorem d_M_put_17 : decode b_M_put 17 = .ok (.iadd, 1) := by decide +kernel
theorem d_M_put_18 : decode b_M_put 18 = .ok (.if_icmp .ge 20, 3) := by decide +kernel
theorem d_M_put_21 : decode b_M_put 21 = .ok (.aload_n 0, 1) := by decide +kernel
theorem d_M_put_22 : decode b_M_put 22 = .ok (.getfield 7, 3) := by decide +kernel
theorem d_M_put_25 : decode b_M_put 25 = .ok (.iload 4, 2) := by decide +kernel
theorem d_M_put_27 : decode b_M_put 27 = .ok (.iaload, 1) := by decide +kernel
theorem d_M_put_28 : decode b_M_put 28 = .ok (.iconst (-1), 1) := by decide +kernel
theorem d_M_put_29 : decode b_M_put 29 = .ok (.if_icmp .eq 9, 3) := by decide +kernel
theorem d_M_put_32 : decode b_M_put 32 = .ok (.iinc 4 1, 3) := by decide +kernel
theorem d_M_put_35 : decode b_M_put 35 = .ok (.goto (-27), 3) := by decide +kernel
theorem d_M_put_38 : decode b_M_put 38 = .ok (.aload_n 0, 1) := by decide +kernel
theorem d_M_put_39 : decode b_M_put 39 = .ok (.invokevirtual 73, 3) := by decide +kernel
theorem d_M_put_42 : decode b_M_put 42 = .ok (.ifCond .ne 5, 3) := by decide +kernel
theorem d_M_put_45 : decode b_M_put 45 = .ok (.iconst 0, 1) := by decide +kernel
theorem d_M_put_46 : decode b_M_put 46 = .ok (.ireturn, 1) := by decide +kernel
theorem d_M_put_47 : decode b_M_put 47 = .ok (.aload_n 0, 1) := by decide +kernel
theorem d_M_put_48 : decode b_M_put 48 = .ok (.getfield 7, 3) := by decide +kernel
theorem d_M_put_51 : decode b_M_put 51 = .ok (.iload 4, 2) := by decide +kernel
theorem d_M_put_53 : decode b_M_put 53 = .ok (.iload_n 1, 1) := by decide +kernel
theorem d_M_put_54 : decode b_M_put 54 = .ok (.iastore, 1) := by decide +kernel
theorem d_M_put_55 : decode b_M_put 55 = .ok (.aload_n 0, 1) := by decide +kernel
theorem d_M_put_56 : decode b_M_put 56 = .ok (.getfield 13, 3) := by decide +kernel
theorem d_M_put_59 : decode b_M_put 59 = .ok (.iload 4, 2) := by decide +kernel
theorem d_M_put_61 : decode b_M_put 61 = .ok (.iload_n 2, 1) := by decide +kernel
theorem d_M_put_62 : decode b_M_put 62 = .ok (.iastore, 1) := by decide +kernel
theorem d_M_put_63 : decode b_M_put 63 = .ok (.aload_n 0, 1) := by decide +kernel
theorem d_M_put_64 : decode b_M_put 64 = .ok (.getfield 19, 3) := by decide +kernel
theorem d_M_put_67 : decode b_M_put 67 = .ok (.iload 4, 2) := by decide +kernel
theorem d_M_put_69 : decode b_M_put 69 = .ok (.iload_n 3, 1) := by decide +kernel
theorem d_M_put_70 : decode b_M_put 70 = .ok (.iastore, 1) := by decide +kernel
theorem d_M_put_71 : decode b_M_put 71 = .ok (.aload_n 0, 1) := by decide +kernel
theorem d_M_put_72 : decode b_M_put 72 = .ok (.getfield 16, 3) := by decide +kernel
theorem d_M_put_75 : decode b_M_put 75 = .ok (.iload 4, 2) := by decide +kernel
theorem d_M_put_77 : decode b_M_put 77 = .ok (.aload_n 0, 1) := by decide +kernel
theorem d_M_put_78 : decode b_M_put 78 = .ok (.getfield 77, 3) := by decide +kernel
theorem d_M_put_81 : decode b_M_put 81 = .ok (.iastore, 1) := by decide +kernel
theorem d_M_put_82 : decode b_M_put 82 = .ok (.aload_n 0, 1) := by decide +kernel
theorem d_M_put_83 : decode b_M_put 83 = .ok (.dup, 1) := by decide +kernel
theorem d_M_put_84 : decode b_M_put 84 = .ok (.getfield 77, 3) := by decide +kernel
theorem d_M_put_87 : decode b_M_put 87 = .ok (.iconst 1, 1) := by decide +kernel
theorem d_M_put_88 : decode b_M_put 88 = .ok (.iadd, 1) := by decide +kernel
theorem d_M_put_89 : decode b_M_put 89 = .ok (.putfield 77, 3) := by decide +kernel
theorem d_M_put_92 : decode b_M_put 92 = .ok (.iconst 1, 1) := by decide +kernel
theorem d_M_put_93 : decode b_M_put 93 = .ok (.ireturn, 1) := by decide +kernel
theorem d_M_operates_0 : decode b_M_operates 0 = .ok (.aload_n 0, 1) := by decide +kernel
theorem d_M_operates_1 : decode b_M_operates 1 = .ok (.getfield 63, 3) := by decide +kernel
theorem d_M_operates_4 : decode b_M_operates 4 = .ok (.iconst 1, 1) := by decide +kernel
theorem d_M_operates_5 : decode b_M_operates 5 = .ok (.if_icmp .ne 15, 3) := by decide +kernel
theorem d_M_operates_8 : decode b_M_operates 8 = .ok (.aload_n 0, 1) := by decide +kernel
theorem d_M_operates_9 : decode b_M_operates 9 = .ok (.iconst 0, 1) := by decide +kernel
theorem d_M_operates_10 : decode b_M_operates 10 = .ok (.putfield 63, 3) := by decide +kernel
theorem d_M_operates_13 : decode b_M_operates 13 = .ok (.aload_n 0, 1) := by decide +kernel
theorem d_M_operates_14 : decode b_M_operates 14 = .ok (.iconst 1, 1) := by decide +kernel
theorem d_M_operates_15 : decode b_M_operates 15 = .ok (.putfield 66, 3) := by decide +kernel
theorem d_M_operates_18 : decode b_M_operates 18 = .ok (.iconst 0, 1) := by decide +kernel
theorem d_M_operates_19 : decode b_M_operates 19 = .ok (.ireturn, 1) := by decide +kernel
theorem d_M_operates_20 : decode b_M_operates 20 = .ok (.aload_n 0, 1) := by decide +kernel
theorem d_M_operates_21 : decode b_M_operates 21 = .ok (.aload_n 0, 1) := by decide +kernel
theorem d_M_operates_22 : decode b_M_operates 22 = .ok (.getfield 63, 3) := by decide +kernel
theorem d_M_operates_25 : decode b_M_operates 25 = .ok (.ifCond .le 12, 3) := by decide +kernel
theorem d_M_operates_28 : decode b_M_operates 28 = .ok (.aload_n 0, 1) := by decide +kernel
theorem d_M_operates_29 : decode b_M_operates 29 = .ok (.getfield 63, 3) := by decide +kernel
theorem d_M_operates_32 : decode b_M_operates 32 = .ok (.iconst 1, 1) := by decide +kernel
theorem d_M_operates_33 : decode b_M_operates 33 = .ok (.isub, 1) := by decide +kernel
theorem d_M_operates_34 : decode b_M_operates 34 = .ok (.goto 4, 3) := by decide +kernel
theorem d_M_operates_37 : decode b_M_operates 37 = .ok (.iconst 0, 1) := by decide +kernel
theorem d_M_operates_38 : decode b_M_operates 38 = .ok (.putfield 63, 3) := by decide +kernel
theorem d_M_operates_41 : decode b_M_operates 41 = .ok (.aload_n 0, 1) := by decide +kernel
theorem d_M_operates_42 : decode b_M_operates 42 = .ok (.dup, 1) := by decide +kernel
theorem d_M_operates_43 : decode b_M_operates 43 = .ok (.getfield 70, 3) := by decide +kernel
theorem d_M_operates_46 : decode b_M_operates 46 = .ok (.iconst 1, 1) := by decide +kernel
theorem d_M_operates_47 : decode b_M_operates 47 = .ok (.iadd, 1) := by decide +kernel
theorem d_M_operates_48 : decode b_M_operates 48 = .ok (.putfield 70, 3) := by decide +kernel
theorem d_M_operates_51 : decode b_M_operates 51 = .ok (.iconst 1, 1) := by decide +kernel
theorem d_M_operates_52 : decode b_M_operates 52 = .ok (.ireturn, 1) := by decide +kernel
theorem d_M_write_0 : decode b_M_write 0 = .ok (.aload_n 0, 1) := by decide +kernel
theorem d_M_write_1 : decode b_M_write 1 = .ok (.iload_n 1, 1) := by decide +kernel
theorem d_M_write_2 : decode b_M_write 2 = .ok (.iload_n 2, 1) := by decide +kernel
theorem d_M_write_3 : decode b_M_write 3 = .ok (.iconst 1, 1) := by decide +kernel
theorem d_M_write_4 : decode b_M_write 4 = .ok (.invokevirtual 115, 3) := by decide +kernel
theorem d_M_write_7 : decode b_M_write 7 = .ok (.ireturn, 1) := by decide +kernel
theorem d_M_change_0 : decode b_M_change 0 = .ok (.aload_n 0, 1) := by decide +kernel
theorem d_M_change_1 : decode b_M_change 1 = .ok (.iload_n 1, 1) := by decide +kernel
theorem d_M_change_2 : decode b_M_change 2 = .ok (.invokevirtual 103, 3) := by decide +kernel
theorem d_M_change_5 : decode b_M_change 5 = .ok (.ifCond .ne 5, 3) := by decide +kernel
theorem d_M_change_8 : decode b_M_change 8 = .ok (.iconst (-1), 1) := by decide +kernel
theorem d_M_change_9 : decode b_M_change 9 = .ok (.ireturn, 1) := by decide +kernel
theorem d_M_change_10 : decode b_M_change 10 = .ok (.aload_n 0, 1) := by decide +kernel
theorem d_M_change_11 : decode b_M_change 11 = .ok (.iload_n 1, 1) := by decide +kernel
theorem d_M_change_12 : decode b_M_change 12 = .ok (.invokevirtual 106, 3) := by decide +kernel
theorem d_M_change_15 : decode b_M_change 15 = .ok (.istore 4, 2) := by decide +kernel
theorem d_M_change_17 : decode b_M_change 17 = .ok (.iload 4, 2) := by decide +kernel
theorem d_M_change_19 : decode b_M_change 19 = .ok (.iconst (-1), 1) := by decide +kernel
theorem d_M_change_20 : decode b_M_change 20 = .ok (.if_icmp .ne 24, 3) := by decide +kernel
theorem d_M_change_23 : decode b_M_change 23 = .ok (.aload_n 0, 1) := by decide +kernel
theorem d_M_change_24 : decode b_M_change 24 = .ok (.getfield 100, 3) := by decide +kernel
theorem d_M_change_27 : decode b_M_change 27 = .ok (.iconst 3, 1) := by decide +kernel
theorem d_M_change_28 : decode b_M_change 28 = .ok (.if_icmp .ne 16, 3) := by decide +kernel
theorem d_M_change_31 : decode b_M_change 31 = .ok (.aload_n 0, 1) := by decide +kernel
theorem d_M_change_32 : decode b_M_change 32 = .ok (.invokevirtual 109, 3) := by decide +kernel
theorem d_M_change_35 : decode b_M_change 35 = .ok (.ifCond .ne 9, 3) := by decide +kernel
theorem d_M_change_38 : decode b_M_change 38 = .ok (.aload_n 0, 1) := by decide +kernel
theorem d_M_change_39 : decode b_M_change 39 = .ok (.invokevirtual 112, 3) := by decide +kernel
theorem d_M_change_42 : decode b_M_change 42 = .ok (.iconst 1, 1) := by decide +kernel
theorem d_M_change_43 : decode b_M_change 43 = .ok (.ireturn, 1) := by decide +kernel
theorem d_M_change_44 : decode b_M_change 44 = .ok (.iload 4, 2) := by decide +kernel
theorem d_M_change_46 : decode b_M_change 46 = .ok (.iconst (-1), 1) := by decide +kernel
theorem d_M_change_47 : decode b_M_change 47 = .ok (.if_icmp .ne 19, 3) := by decide +kernel
theorem d_M_change_50 : decode b_M_change 50 = .ok (.aload_n 0, 1) := by decide +kernel
theorem d_M_change_51 : decode b_M_change 51 = .ok (.getfield 100, 3) := by decide +kernel
theorem d_M_change_54 : decode b_M_change 54 = .ok (.istore 4, 2) := by decide +kernel
theorem d_M_change_56 : decode b_M_change 56 = .ok (.aload_n 0, 1) := by decide +kernel
theorem d_M_change_57 : decode b_M_change 57 = .ok (.dup, 1) := by decide +kernel
theorem d_M_change_58 : decode b_M_change 58 = .ok (.getfield 100, 3) := by decide +kernel
theorem d_M_change_61 : decode b_M_change 61 = .ok (.iconst 1, 1) := by decide +kernel
theorem d_M_change_62 : decode b_M_change 62 = .ok (.iadd, 1) := by decide +kernel
theorem d_M_change_63 : decode b_M_change 63 = .ok (.putfield 100, 3) := by decide +kernel
theorem d_M_change_66 : decode b_M_change 66 = .ok (.aload_n 0, 1) := by decide +kernel
theorem d_M_change_67 : decode b_M_change 67 = .ok (.getfield 29, 3) := by decide +kernel
theorem d_M_change_70 : decode b_M_change 70 = .ok (.iload 4, 2) := by decide +kernel
theorem d_M_change_72 : decode b_M_change 72 = .ok (.iload_n 1, 1) := by decide +kernel
theorem d_M_change_73 : decode b_M_change 73 = .ok (.iastore, 1) := by decide +kernel
theorem d_M_change_74 : decode b_M_change 74 = .ok (.aload_n 0, 1) := by decide +kernel
theorem d_M_change_75 : decode b_M_change 75 = .ok (.getfield 32, 3) := by decide +kernel
theorem d_M_change_78 : decode b_M_change 78 = .ok (.iload 4, 2) := by decide +kernel
theorem d_M_change_80 : decode b_M_change 80 = .ok (.iload_n 2, 1) := by decide +kernel
theorem d_M_change_81 : decode b_M_change 81 = .ok (.iastore, 1) := by decide +kernel
theorem d_M_change_82 : decode b_M_change 82 = .ok (.aload_n 0, 1) := by decide +kernel
theorem d_M_change_83 : decode b_M_change 83 = .ok (.getfield 35, 3) := by decide +kernel
theorem d_M_change_86 : decode b_M_change 86 = .ok (.iload 4, 2) := by decide +kernel
theorem d_M_change_88 : decode b_M_change 88 = .ok (.iload_n 3, 1) := by decide +kernel
theorem d_M_change_89 : decode b_M_change 89 = .ok (.iastore, 1) := by decide +kernel
theorem d_M_change_90 : decode b_M_change 90 = .ok (.iconst 0, 1) := by decide +kernel
theorem d_M_change_91 : decode b_M_change 91 = .ok (.ireturn, 1) := by decide +kernel
theorem d_M_isSector_0 : decode b_M_isSector 0 = .ok (.iload_n 1, 1) := by decide +kernel
theorem d_M_isSector_1 : decode b_M_isSector 1 = .ok (.ifCond .lt 15, 3) := by decide +kernel
theorem d_M_isSector_4 : decode b_M_isSector 4 = .ok (.iload_n 1, 1) := by decide +kernel
theorem d_M_isSector_5 : decode b_M_isSector 5 = .ok (.aload_n 0, 1) := by decide +kernel
theorem d_M_isSector_6 : decode b_M_isSector 6 = .ok (.invokevirtual 44, 3) := by decide +kernel
theorem d_M_isSector_9 : decode b_M_isSector 9 = .ok (.if_icmp .ge 7, 3) := by decide +kernel
theorem d_M_isSector_12 : decode b_M_isSector 12 = .ok (.iconst 1, 1) := by decide +kernel
theorem d_M_isSector_13 : decode b_M_isSector 13 = .ok (.goto 4, 3) := by decide +kernel
theorem d_M_isSector_16 : decode b_M_isSector 16 = .ok (.iconst 0, 1) := by decide +kernel
theorem d_M_isSector_17 : decode b_M_isSector 17 = .ok (.ireturn, 1) := by decide +kernel
theorem d_M_find_0 : decode b_M_find 0 = .ok (.iconst 0, 1) := by decide +kernel
theorem d_M_find_1 : decode b_M_find 1 = .ok (.istore_n 2, 1) := by decide +kernel
theorem d_M_find_2 : decode b_M_find 2 = .ok (.iload_n 2, 1) := by decide +kernel
theorem d_M_find_3 : decode b_M_find 3 = .ok (.aload_n 0, 1) := by decide +kernel
theorem d_M_find_4 : decode b_M_find 4 = .ok (.getfield 100, 3) := by decide +kernel
theorem d_M_find_7 : decode b_M_find 7 = .ok (.if_icmp .ge 21, 3) := by decide +kernel
theorem d_M_find_10 : decode b_M_find 10 = .ok (.aload_n 0, 1) := by decide +kernel
theorem d_M_find_11 : decode b_M_find 11 = .ok (.getfield 29, 3) := by decide +kernel
theorem d_M_find_14 : decode b_M_find 14 = .ok (.iload_n 2, 1) := by decide +kernel
theorem d_M_find_15 : decode b_M_find 15 = .ok (.iaload, 1) := by decide +kernel
theorem d_M_find_16 : decode b_M_find 16 = .ok (.iload_n 1, 1) := by decide +kernel
theorem d_M_find_17 : decode b_M_find 17 = .ok (.if_icmp .ne 5, 3) := by decide +kernel
theorem d_M_find_20 : decode b_M_find 20 = .ok (.iload_n 2, 1) := by decide +kernel
theorem d_M_find_21 : decode b_M_find 21 = .ok (.ireturn, 1) := by decide +kernel
theorem d_M_find_22 : decode b_M_find 22 = .ok (.iinc 2 1, 3) := by decide +kernel
theorem d_M_find_25 : decode b_M_find 25 = .ok (.goto (-23), 3) := by decide +kernel
theorem d_M_find_28 : decode b_M_find 28 = .ok (.iconst (-1), 1) := by decide +kernel
theorem d_M_find_29 : decode b_M_find 29 = .ok (.ireturn, 1) := by decide +kernel
theorem d_M_store_0 : decode b_M_store 0 = .ok (.aload_n 0, 1) := by decide +kernel
theorem d_M_store_1 : decode b_M_store 1 = .ok (.invokevirtual 97, 3) := by decide +kernel
theorem d_M_store_4 : decode b_M_store 4 = .ok (.ifCond .eq 28, 3) := by decide +kernel
theorem d_M_store_7 : decode b_M_store 7 = .ok (.aload_n 0, 1) := by decide +kernel
theorem d_M_store_8 : decode b_M_store 8 = .ok (.aload_n 0, 1) := by decide +kernel
theorem d_M_store_9 : decode b_M_store 9 = .ok (.getfield 29, 3) := by decide +kernel
theorem d_M_store_12 : decode b_M_store 12 = .ok (.iconst 0, 1) := by decide +kernel
theorem d_M_store_13 : decode b_M_store 13 = .ok (.iaload, 1) := by decide +kernel
theorem d_M_store_14 : decode b_M_store 14 = .ok (.aload_n 0, 1) := by decide +kernel
theorem d_M_store_15 : decode b_M_store 15 = .ok (.getfield 32, 3) := by decide +kernel
theorem d_M_store_18 : decode b_M_store 18 = .ok (.iconst 0, 1) := by decide +kernel
theorem d_M_store_19 : decode b_M_store 19 = .ok (.iaload, 1) := by decide +kernel
theorem d_M_store_20 : decode b_M_store 20 = .ok (.aload_n 0, 1) := by decide +kernel
theorem d_M_store_21 : decode b_M_store 21 = .ok (.getfield 35, 3) := by decide +kernel
theorem d_M_store_24 : decode b_M_store 24 = .ok (.iconst 0, 1) := by decide +kernel
theorem d_M_store_25 : decode b_M_store 25 = .ok (.iaload, 1) := by decide +kernel
theorem d_M_store_26 : decode b_M_store 26 = .ok (.invokevirtual 80, 3) := by decide +kernel
theorem d_M_store_29 : decode b_M_store 29 = .ok (.ifCond .ne 5, 3) := by decide +kernel
theorem d_M_store_32 : decode b_M_store 32 = .ok (.iconst 0, 1) := by decide +kernel
theorem d_M_store_33 : decode b_M_store 33 = .ok (.ireturn, 1) := by decide +kernel
theorem d_M_store_34 : decode b_M_store 34 = .ok (.aload_n 0, 1) := by decide +kernel
theorem d_M_store_35 : decode b_M_store 35 = .ok (.dup, 1) := by decide +kernel
theorem d_M_store_36 : decode b_M_store 36 = .ok (.getfield 100, 3) := by decide +kernel
theorem d_M_store_39 : decode b_M_store 39 = .ok (.iconst 1, 1) := by decide +kernel
theorem d_M_store_40 : decode b_M_store 40 = .ok (.isub, 1) := by decide +kernel
theorem d_M_store_41 : decode b_M_store 41 = .ok (.putfield 100, 3) := by decide +kernel
theorem d_M_store_44 : decode b_M_store 44 = .ok (.iconst 0, 1) := by decide +kernel
theorem d_M_store_45 : decode b_M_store 45 = .ok (.istore_n 1, 1) := by decide +kernel
theorem d_M_store_46 : decode b_M_store 46 = .ok (.iload_n 1, 1) := by decide +kernel
theorem d_M_store_47 : decode b_M_store 47 = .ok (.aload_n 0, 1) := by decide +kernel
theorem d_M_store_48 : decode b_M_store 48 = .ok (.getfield 100, 3) := by decide +kernel
theorem d_M_store_51 : decode b_M_store 51 = .ok (.if_icmp .ge 51, 3) := by decide +kernel
theorem d_M_store_54 : decode b_M_store 54 = .ok (.aload_n 0, 1) := by decide +kernel
theorem d_M_store_55 : decode b_M_store 55 = .ok (.getfield 29, 3) := by decide +kernel
theorem d_M_store_58 : decode b_M_store 58 = .ok (.iload_n 1, 1) := by decide +kernel
theorem d_M_store_59 : decode b_M_store 59 = .ok (.aload_n 0, 1) := by decide +kernel
theorem d_M_store_60 : decode b_M_store 60 = .ok (.getfield 29, 3) := by decide +kernel
theorem d_M_store_63 : decode b_M_store 63 = .ok (.iload_n 1, 1) := by decide +kernel
theorem d_M_store_64 : decode b_M_store 64 = .ok (.iconst 1, 1) := by decide +kernel
end
section
theorem d_M_store_65 : decode b_M_store 65 = .ok (.iadd, 1) := by decide +kernel
theorem d_M_store_66 : decode b_M_store 66 = .ok (.iaload, 1) := by decide +kernel
theorem d_M_store_67 : decode b_M_store 67 = .ok (.iastore, 1) := by decide +kernel
theorem d_M_store_68 : decode b_M_store 68 = .ok (.aload_n 0, 1) := by decide +kernel
theorem d_M_store_69 : decode b_M_store 69 = .ok (.getfield 32, 3) := by decide +kernel
theorem d_M_store_72 : decode b_M_store 72 = .ok (.iload_n 1, 1) := by decide +kernel
theorem d_M_store_73 : decode b_M_store 73 = .ok (.aload_n 0, 1) := by decide +kernel
theorem d_M_store_74 : decode b_M_store 74 = .ok (.getfield 32, 3) := by decide +kernel
theorem d_M_store_77 : decode b_M_store 77 = .ok (.iload_n 1, 1) := by decide +kernel
theorem d_M_store_78 : decode b_M_store 78 = .ok (.iconst 1, 1) := by decide +kernel
theorem d_M_store_79 : decode b_M_store 79 = .ok (.iadd, 1) := by decide +kernel
theorem d_M_store_80 : decode b_M_store 80 = .ok (.iaload, 1) := by decide +kernel
theorem d_M_store_81 : decode b_M_store 81 = .ok (.iastore, 1) := by decide +kernel
theorem d_M_store_82 : decode b_M_store 82 = .ok (.aload_n 0, 1) := by decide +kernel
theorem d_M_store_83 : decode b_M_store 83 = .ok (.getfield 35, 3) := by decide +kernel
theorem d_M_store_86 : decode b_M_store 86 = .ok (.iload_n 1, 1) := by decide +kernel
theorem d_M_store_87 : decode b_M_store 87 = .ok (.aload_n 0, 1) := by decide +kernel
theorem d_M_store_88 : decode b_M_store 88 = .ok (.getfield 35, 3) := by decide +kernel
theorem d_M_store_91 : decode b_M_store 91 = .ok (.iload_n 1, 1) := by decide +kernel
theorem d_M_store_92 : decode b_M_store 92 = .ok (.iconst 1, 1) := by decide +kernel
theorem d_M_store_93 : decode b_M_store 93 = .ok (.iadd, 1) := by decide +kernel
theorem d_M_store_94 : decode b_M_store 94 = .ok (.iaload, 1) := by decide +kernel
theorem d_M_store_95 : decode b_M_store 95 = .ok (.iastore, 1) := by decide +kernel
theorem d_M_store_96 : decode b_M_store 96 = .ok (.iinc 1 1, 3) := by decide +kernel
theorem d_M_store_99 : decode b_M_store 99 = .ok (.goto (-53), 3) := by decide +kernel
theorem d_M_store_102 : decode b_M_store 102 = .ok (.iconst 1, 1) := by decide +kernel
theorem d_M_store_103 : decode b_M_store 103 = .ok (.ireturn, 1) := by decide +kernel
theorem d_M_room_0 : decode b_M_room 0 = .ok (.iconst 0, 1) := by decide +kernel
theorem d_M_room_1 : decode b_M_room 1 = .ok (.istore_n 1, 1) := by decide +kernel
theorem d_M_room_2 : decode b_M_room 2 = .ok (.iconst 0, 1) := by decide +kernel
theorem d_M_room_3 : decode b_M_room 3 = .ok (.istore_n 2, 1) := by decide +kernel
theorem d_M_room_4 : decode b_M_room 4 = .ok (.iload_n 2, 1) := by decide +kernel
theorem d_M_room_5 : decode b_M_room 5 = .ok (.sipush 1000, 3) := by decide +kernel
theorem d_M_room_8 : decode b_M_room 8 = .ok (.if_icmp .ge 114, 3) := by decide +kernel
theorem d_M_room_11 : decode b_M_room 11 = .ok (.aload_n 0, 1) := by decide +kernel
theorem d_M_room_12 : decode b_M_room 12 = .ok (.getfield 25, 3) := by decide +kernel
theorem d_M_room_15 : decode b_M_room 15 = .ok (.iconst (-1), 1) := by decide +kernel
theorem d_M_room_16 : decode b_M_room 16 = .ok (.if_icmp .eq 15, 3) := by decide +kernel
theorem d_M_room_19 : decode b_M_room 19 = .ok (.aload_n 0, 1) := by decide +kernel
theorem d_M_room_20 : decode b_M_room 20 = .ok (.aload_n 0, 1) := by decide +kernel
theorem d_M_room_21 : decode b_M_room 21 = .ok (.getfield 25, 3) := by decide +kernel
theorem d_M_room_24 : decode b_M_room 24 = .ok (.invokevirtual 56, 3) := by decide +kernel
theorem d_M_room_27 : decode b_M_room 27 = .ok (.iconst 4, 1) := by decide +kernel
theorem d_M_room_28 : decode b_M_room 28 = .ok (.if_icmp .ne 94, 3) := by decide +kernel
theorem d_M_room_31 : decode b_M_room 31 = .ok (.aload_n 0, 1) := by decide +kernel
theorem d_M_room_32 : decode b_M_room 32 = .ok (.invokevirtual 84, 3) := by decide +kernel
theorem d_M_room_35 : decode b_M_room 35 = .ok (.iconst 2, 1) := by decide +kernel
theorem d_M_room_36 : decode b_M_room 36 = .ok (.if_icmp .ge 7, 3) := by decide +kernel
theorem d_M_room_39 : decode b_M_room 39 = .ok (.iconst 1, 1) := by decide +kernel
theorem d_M_room_40 : decode b_M_room 40 = .ok (.goto 4, 3) := by decide +kernel
theorem d_M_room_43 : decode b_M_room 43 = .ok (.iconst 0, 1) := by decide +kernel
theorem d_M_room_44 : decode b_M_room 44 = .ok (.istore_n 3, 1) := by decide +kernel
theorem d_M_room_45 : decode b_M_room 45 = .ok (.aload_n 0, 1) := by decide +kernel
theorem d_M_room_46 : decode b_M_room 46 = .ok (.aload_n 0, 1) := by decide +kernel
theorem d_M_room_47 : decode b_M_room 47 = .ok (.iconst 0, 1) := by decide +kernel
theorem d_M_room_48 : decode b_M_room 48 = .ok (.iconst 0, 1) := by decide +kernel
theorem d_M_room_49 : decode b_M_room 49 = .ok (.invokevirtual 87, 3) := by decide +kernel
theorem d_M_room_52 : decode b_M_room 52 = .ok (.putfield 25, 3) := by decide +kernel
theorem d_M_room_55 : decode b_M_room 55 = .ok (.iload_n 3, 1) := by decide +kernel
theorem d_M_room_56 : decode b_M_room 56 = .ok (.ifCond .eq 60, 3) := by decide +kernel
theorem d_M_room_59 : decode b_M_room 59 = .ok (.iload_n 1, 1) := by decide +kernel
theorem d_M_room_60 : decode b_M_room 60 = .ok (.ifCond .ne 14, 3) := by decide +kernel
theorem d_M_room_63 : decode b_M_room 63 = .ok (.aload_n 0, 1) := by decide +kernel
theorem d_M_room_64 : decode b_M_room 64 = .ok (.invokevirtual 91, 3) := by decide +kernel
theorem d_M_room_67 : decode b_M_room 67 = .ok (.ifCond .eq 7, 3) := by decide +kernel
theorem d_M_room_70 : decode b_M_room 70 = .ok (.iconst 1, 1) := by decide +kernel
theorem d_M_room_71 : decode b_M_room 71 = .ok (.goto 4, 3) := by decide +kernel
theorem d_M_room_74 : decode b_M_room 74 = .ok (.iconst 0, 1) := by decide +kernel
theorem d_M_room_75 : decode b_M_room 75 = .ok (.istore 4, 2) := by decide +kernel
theorem d_M_room_77 : decode b_M_room 77 = .ok (.iload_n 1, 1) := by decide +kernel
theorem d_M_room_78 : decode b_M_room 78 = .ok (.ifCond .ne 8, 3) := by decide +kernel
theorem d_M_room_81 : decode b_M_room 81 = .ok (.iload 4, 2) := by decide +kernel
theorem d_M_room_83 : decode b_M_room 83 = .ok (.ifCond .eq 7, 3) := by decide +kernel
theorem d_M_room_86 : decode b_M_room 86 = .ok (.iconst 1, 1) := by decide +kernel
theorem d_M_room_87 : decode b_M_room 87 = .ok (.goto 4, 3) := by decide +kernel
theorem d_M_room_90 : decode b_M_room 90 = .ok (.iconst 0, 1) := by decide +kernel
theorem d_M_room_91 : decode b_M_room 91 = .ok (.istore_n 1, 1) := by decide +kernel
theorem d_M_room_92 : decode b_M_room 92 = .ok (.aload_n 0, 1) := by decide +kernel
theorem d_M_room_93 : decode b_M_room 93 = .ok (.aload_n 0, 1) := by decide +kernel
theorem d_M_room_94 : decode b_M_room 94 = .ok (.iconst 4, 1) := by decide +kernel
theorem d_M_room_95 : decode b_M_room 95 = .ok (.iload 4, 2) := by decide +kernel
theorem d_M_room_97 : decode b_M_room 97 = .ok (.ifCond .ne 7, 3) := by decide +kernel
theorem d_M_room_100 : decode b_M_room 100 = .ok (.iconst 1, 1) := by decide +kernel
theorem d_M_room_101 : decode b_M_room 101 = .ok (.goto 4, 3) := by decide +kernel
theorem d_M_room_104 : decode b_M_room 104 = .ok (.iconst 0, 1) := by decide +kernel
theorem d_M_room_105 : decode b_M_room 105 = .ok (.invokevirtual 87, 3) := by decide +kernel
theorem d_M_room_108 : decode b_M_room 108 = .ok (.invokevirtual 94, 3) := by decide +kernel
theorem d_M_room_111 : decode b_M_room 111 = .ok (.ifCond .ne 5, 3) := by decide +kernel
theorem d_M_room_114 : decode b_M_room 114 = .ok (.iconst 0, 1) := by decide +kernel
theorem d_M_room_115 : decode b_M_room 115 = .ok (.ireturn, 1) := by decide +kernel
theorem d_M_room_116 : decode b_M_room 116 = .ok (.iinc 2 1, 3) := by decide +kernel
theorem d_M_room_119 : decode b_M_room 119 = .ok (.goto (-115), 3) := by decide +kernel
theorem d_M_room_122 : decode b_M_room 122 = .ok (.iconst 1, 1) := by decide +kernel
theorem d_M_room_123 : decode b_M_room 123 = .ok (.ireturn, 1) := by decide +kernel
theorem d_M_uneven_0 : decode b_M_uneven 0 = .ok (.aload_n 0, 1) := by decide +kernel
theorem d_M_uneven_1 : decode b_M_uneven 1 = .ok (.getfield 22, 3) := by decide +kernel
theorem d_M_uneven_4 : decode b_M_uneven 4 = .ok (.iconst 0, 1) := by decide +kernel
theorem d_M_uneven_5 : decode b_M_uneven 5 = .ok (.iaload, 1) := by decide +kernel
theorem d_M_uneven_6 : decode b_M_uneven 6 = .ok (.istore_n 1, 1) := by decide +kernel
theorem d_M_uneven_7 : decode b_M_uneven 7 = .ok (.aload_n 0, 1) := by decide +kernel
theorem d_M_uneven_8 : decode b_M_uneven 8 = .ok (.getfield 22, 3) := by decide +kernel
theorem d_M_uneven_11 : decode b_M_uneven 11 = .ok (.iconst 0, 1) := by decide +kernel
theorem d_M_uneven_12 : decode b_M_uneven 12 = .ok (.iaload, 1) := by decide +kernel
theorem d_M_uneven_13 : decode b_M_uneven 13 = .ok (.istore_n 2, 1) := by decide +kernel
theorem d_M_uneven_14 : decode b_M_uneven 14 = .ok (.iconst 1, 1) := by decide +kernel
theorem d_M_uneven_15 : decode b_M_uneven 15 = .ok (.istore_n 3, 1) := by decide +kernel
theorem d_M_uneven_16 : decode b_M_uneven 16 = .ok (.iload_n 3, 1) := by decide +kernel
theorem d_M_uneven_17 : decode b_M_uneven 17 = .ok (.aload_n 0, 1) := by decide +kernel
theorem d_M_uneven_18 : decode b_M_uneven 18 = .ok (.getfield 38, 3) := by decide +kernel
theorem d_M_uneven_21 : decode b_M_uneven 21 = .ok (.if_icmp .ge 51, 3) := by decide +kernel
theorem d_M_uneven_24 : decode b_M_uneven 24 = .ok (.aload_n 0, 1) := by decide +kernel
theorem d_M_uneven_25 : decode b_M_uneven 25 = .ok (.getfield 22, 3) := by decide +kernel
theorem d_M_uneven_28 : decode b_M_uneven 28 = .ok (.iload_n 3, 1) := by decide +kernel
theorem d_M_uneven_29 : decode b_M_uneven 29 = .ok (.iaload, 1) := by decide +kernel
theorem d_M_uneven_30 : decode b_M_uneven 30 = .ok (.iload_n 1, 1) := by decide +kernel
theorem d_M_uneven_31 : decode b_M_uneven 31 = .ok (.if_icmp .le 12, 3) := by decide +kernel
theorem d_M_uneven_34 : decode b_M_uneven 34 = .ok (.aload_n 0, 1) := by decide +kernel
theorem d_M_uneven_35 : decode b_M_uneven 35 = .ok (.getfield 22, 3) := by decide +kernel
theorem d_M_uneven_38 : decode b_M_uneven 38 = .ok (.iload_n 3, 1) := by decide +kernel
theorem d_M_uneven_39 : decode b_M_uneven 39 = .ok (.iaload, 1) := by decide +kernel
theorem d_M_uneven_40 : decode b_M_uneven 40 = .ok (.goto 4, 3) := by decide +kernel
theorem d_M_uneven_43 : decode b_M_uneven 43 = .ok (.iload_n 1, 1) := by decide +kernel
theorem d_M_uneven_44 : decode b_M_uneven 44 = .ok (.istore_n 1, 1) := by decide +kernel
theorem d_M_uneven_45 : decode b_M_uneven 45 = .ok (.aload_n 0, 1) := by decide +kernel
theorem d_M_uneven_46 : decode b_M_uneven 46 = .ok (.getfield 22, 3) := by decide +kernel
theorem d_M_uneven_49 : decode b_M_uneven 49 = .ok (.iload_n 3, 1) := by decide +kernel
theorem d_M_uneven_50 : decode b_M_uneven 50 = .ok (.iaload, 1) := by decide +kernel
theorem d_M_uneven_51 : decode b_M_uneven 51 = .ok (.iload_n 2, 1) := by decide +kernel
theorem d_M_uneven_52 : decode b_M_uneven 52 = .ok (.if_icmp .ge 12, 3) := by decide +kernel
theorem d_M_uneven_55 : decode b_M_uneven 55 = .ok (.aload_n 0, 1) := by decide +kernel
theorem d_M_uneven_56 : decode b_M_uneven 56 = .ok (.getfield 22, 3) := by decide +kernel
theorem d_M_uneven_59 : decode b_M_uneven 59 = .ok (.iload_n 3, 1) := by decide +kernel
theorem d_M_uneven_60 : decode b_M_uneven 60 = .ok (.iaload, 1) := by decide +kernel
theorem d_M_uneven_61 : decode b_M_uneven 61 = .ok (.goto 4, 3) := by decide +kernel
theorem d_M_uneven_64 : decode b_M_uneven 64 = .ok (.iload_n 2, 1) := by decide +kernel
theorem d_M_uneven_65 : decode b_M_uneven 65 = .ok (.istore_n 2, 1) := by decide +kernel
theorem d_M_uneven_66 : decode b_M_uneven 66 = .ok (.iinc 3 1, 3) := by decide +kernel
theorem d_M_uneven_69 : decode b_M_uneven 69 = .ok (.goto (-53), 3) := by decide +kernel
theorem d_M_uneven_72 : decode b_M_uneven 72 = .ok (.iload_n 1, 1) := by decide +kernel
theorem d_M_uneven_73 : decode b_M_uneven 73 = .ok (.iload_n 2, 1) := by decide +kernel
theorem d_M_uneven_74 : decode b_M_uneven 74 = .ok (.isub, 1) := by decide +kernel
theorem d_M_uneven_75 : decode b_M_uneven 75 = .ok (.aload_n 0, 1) := by decide +kernel
theorem d_M_uneven_76 : decode b_M_uneven 76 = .ok (.getfield 41, 3) := by decide +kernel
theorem d_M_uneven_79 : decode b_M_uneven 79 = .ok (.if_icmp .le 7, 3) := by decide +kernel
theorem d_M_uneven_82 : decode b_M_uneven 82 = .ok (.iconst 1, 1) := by decide +kernel
theorem d_M_uneven_83 : decode b_M_uneven 83 = .ok (.goto 4, 3) := by decide +kernel
theorem d_M_uneven_86 : decode b_M_uneven 86 = .ok (.iconst 0, 1) := by decide +kernel
theorem d_M_uneven_87 : decode b_M_uneven 87 = .ok (.ireturn, 1) := by decide +kernel
theorem d_M_trim_0 : decode b_M_trim 0 = .ok (.aload_n 0, 1) := by decide +kernel
theorem d_M_trim_1 : decode b_M_trim 1 = .ok (.iload_n 1, 1) := by decide +kernel
theorem d_M_trim_2 : decode b_M_trim 2 = .ok (.iconst 0, 1) := by decide +kernel
theorem d_M_trim_3 : decode b_M_trim 3 = .ok (.iconst 2, 1) := by decide +kernel
theorem d_M_trim_4 : decode b_M_trim 4 = .ok (.invokevirtual 115, 3) := by decide +kernel
theorem d_M_trim_7 : decode b_M_trim 7 = .ok (.ireturn, 1) := by decide +kernel
theorem d_M_flush_0 : decode b_M_flush 0 = .ok (.aload_n 0, 1) := by decide +kernel
theorem d_M_flush_1 : decode b_M_flush 1 = .ok (.getfield 100, 3) := by decide +kernel
theorem d_M_flush_4 : decode b_M_flush 4 = .ok (.ifCond .le 16, 3) := by decide +kernel
theorem d_M_flush_7 : decode b_M_flush 7 = .ok (.aload_n 0, 1) := by decide +kernel
theorem d_M_flush_8 : decode b_M_flush 8 = .ok (.invokevirtual 109, 3) := by decide +kernel
theorem d_M_flush_11 : decode b_M_flush 11 = .ok (.ifCond .ne (-11), 3) := by decide +kernel
theorem d_M_flush_14 : decode b_M_flush 14 = .ok (.aload_n 0, 1) := by decide +kernel
theorem d_M_flush_15 : decode b_M_flush 15 = .ok (.invokevirtual 112, 3) := by decide +kernel
theorem d_M_flush_18 : decode b_M_flush 18 = .ok (.iconst 1, 1) := by decide +kernel
theorem d_M_flush_19 : decode b_M_flush 19 = .ok (.ireturn, 1) := by decide +kernel
theorem d_M_flush_20 : decode b_M_flush 20 = .ok (.iconst 0, 1) := by decide +kernel
theorem d_M_flush_21 : decode b_M_flush 21 = .ok (.ireturn, 1) := by decide +kernel
theorem d_M_fuse_0 : decode b_M_fuse 0 = .ok (.iload_n 1, 1) := by decide +kernel
theorem d_M_fuse_1 : decode b_M_fuse 1 = .ok (.ifCond .lt 10, 3) := by decide +kernel
theorem d_M_fuse_4 : decode b_M_fuse 4 = .ok (.iload_n 1, 1) := by decide +kernel
theorem d_M_fuse_5 : decode b_M_fuse 5 = .ok (.sipush 1000, 3) := by decide +kernel
theorem d_M_fuse_8 : decode b_M_fuse 8 = .ok (.if_icmp .le 5, 3) := by decide +kernel
theorem d_M_fuse_11 : decode b_M_fuse 11 = .ok (.iconst 0, 1) := by decide +kernel
theorem d_M_fuse_12 : decode b_M_fuse 12 = .ok (.ireturn, 1) := by decide +kernel
theorem d_M_fuse_13 : decode b_M_fuse 13 = .ok (.aload_n 0, 1) := by decide +kernel
theorem d_M_fuse_14 : decode b_M_fuse 14 = .ok (.iload_n 1, 1) := by decide +kernel
theorem d_M_fuse_15 : decode b_M_fuse 15 = .ok (.putfield 63, 3) := by decide +kernel
theorem d_M_fuse_18 : decode b_M_fuse 18 = .ok (.iconst 1, 1) := by decide +kernel
theorem d_M_fuse_19 : decode b_M_fuse 19 = .ok (.ireturn, 1) := by decide +kernel
theorem d_M_read_0 : decode b_M_read 0 = .ok (.aload_n 0, 1) := by decide +kernel
theorem d_M_read_1 : decode b_M_read 1 = .ok (.iload_n 1, 1) := by decide +kernel
theorem d_M_read_2 : decode b_M_read 2 = .ok (.invokevirtual 103, 3) := by decide +kernel
theorem d_M_read_5 : decode b_M_read 5 = .ok (.ifCond .eq 11, 3) := by decide +kernel
theorem d_M_read_8 : decode b_M_read 8 = .ok (.aload_n 0, 1) := by decide +kernel
theorem d_M_read_9 : decode b_M_read 9 = .ok (.iload_n 1, 1) := by decide +kernel
theorem d_M_read_10 : decode b_M_read 10 = .ok (.invokevirtual 106, 3) := by decide +kernel
theorem d_M_read_13 : decode b_M_read 13 = .ok (.goto 4, 3) := by decide +kernel
theorem d_M_read_16 : decode b_M_read 16 = .ok (.iconst (-1), 1) := by decide +kernel
theorem d_M_read_17 : decode b_M_read 17 = .ok (.istore_n 2, 1) := by decide +kernel
theorem d_M_read_18 : decode b_M_read 18 = .ok (.iload_n 2, 1) := by decide +kernel
theorem d_M_read_19 : decode b_M_read 19 = .ok (.iconst (-1), 1) := by decide +kernel
theorem d_M_read_20 : decode b_M_read 20 = .ok (.if_icmp .eq 10, 3) := by decide +kernel
theorem d_M_read_23 : decode b_M_read 23 = .ok (.aload_n 0, 1) := by decide +kernel
theorem d_M_read_24 : decode b_M_read 24 = .ok (.getfield 32, 3) := by decide +kernel
theorem d_M_read_27 : decode b_M_read 27 = .ok (.iload_n 2, 1) := by decide +kernel
theorem d_M_read_28 : decode b_M_read 28 = .ok (.iaload, 1) := by decide +kernel
theorem d_M_read_29 : decode b_M_read 29 = .ok (.ireturn, 1) := by decide +kernel
theorem d_M_read_30 : decode b_M_read 30 = .ok (.aload_n 0, 1) := by decide +kernel
theorem d_M_read_31 : decode b_M_read 31 = .ok (.iload_n 1, 1) := by decide +kernel
theorem d_M_read_32 : decode b_M_read 32 = .ok (.invokevirtual 103, 3) := by decide +kernel
theorem d_M_read_35 : decode b_M_read 35 = .ok (.ifCond .eq 11, 3) := by decide +kernel
theorem d_M_read_38 : decode b_M_read 38 = .ok (.aload_n 0, 1) := by decide +kernel
theorem d_M_read_39 : decode b_M_read 39 = .ok (.iload_n 1, 1) := by decide +kernel
theorem d_M_read_40 : decode b_M_read 40 = .ok (.invokevirtual 48, 3) := by decide +kernel
theorem d_M_read_43 : decode b_M_read 43 = .ok (.goto 4, 3) := by decide +kernel
theorem d_M_read_46 : decode b_M_read 46 = .ok (.iconst (-1), 1) := by decide +kernel
theorem d_M_read_47 : decode b_M_read 47 = .ok (.istore_n 3, 1) := by decide +kernel
theorem d_M_read_48 : decode b_M_read 48 = .ok (.iload_n 3, 1) := by decide +kernel
theorem d_M_read_49 : decode b_M_read 49 = .ok (.iconst (-1), 1) := by decide +kernel
theorem d_M_read_50 : decode b_M_read 50 = .ok (.if_icmp .ne 7, 3) := by decide +kernel
theorem d_M_read_53 : decode b_M_read 53 = .ok (.iconst 0, 1) := by decide +kernel
theorem d_M_read_54 : decode b_M_read 54 = .ok (.goto 9, 3) := by decide +kernel
theorem d_M_read_57 : decode b_M_read 57 = .ok (.aload_n 0, 1) := by decide +kernel
theorem d_M_read_58 : decode b_M_read 58 = .ok (.getfield 13, 3) := by decide +kernel
theorem d_M_read_61 : decode b_M_read 61 = .ok (.iload_n 3, 1) := by decide +kernel
theorem d_M_read_62 : decode b_M_read 62 = .ok (.iaload, 1) := by decide +kernel
theorem d_M_read_63 : decode b_M_read 63 = .ok (.ireturn, 1) := by decide +kernel
theorem d_M_holds_0 : decode b_M_holds 0 = .ok (.aload_n 0, 1) := by decide +kernel
theorem d_M_holds_1 : decode b_M_holds 1 = .ok (.iload_n 1, 1) := by decide +kernel
theorem d_M_holds_2 : decode b_M_holds 2 = .ok (.invokevirtual 103, 3) := by decide +kernel
theorem d_M_holds_5 : decode b_M_holds 5 = .ok (.ifCond .eq 11, 3) := by decide +kernel
theorem d_M_holds_8 : decode b_M_holds 8 = .ok (.aload_n 0, 1) := by decide +kernel
theorem d_M_holds_9 : decode b_M_holds 9 = .ok (.iload_n 1, 1) := by decide +kernel
theorem d_M_holds_10 : decode b_M_holds 10 = .ok (.invokevirtual 106, 3) := by decide +kernel
theorem d_M_holds_13 : decode b_M_holds 13 = .ok (.goto 4, 3) := by decide +kernel
theorem d_M_holds_16 : decode b_M_holds 16 = .ok (.iconst (-1), 1) := by decide +kernel
theorem d_M_holds_17 : decode b_M_holds 17 = .ok (.istore_n 2, 1) := by decide +kernel
theorem d_M_holds_18 : decode b_M_holds 18 = .ok (.iload_n 2, 1) := by decide +kernel
theorem d_M_holds_19 : decode b_M_holds 19 = .ok (.iconst (-1), 1) := by decide +kernel
theorem d_M_holds_20 : decode b_M_holds 20 = .ok (.if_icmp .eq 10, 3) := by decide +kernel
theorem d_M_holds_23 : decode b_M_holds 23 = .ok (.aload_n 0, 1) := by decide +kernel
theorem d_M_holds_24 : decode b_M_holds 24 = .ok (.getfield 35, 3) := by decide +kernel
theorem d_M_holds_27 : decode b_M_holds 27 = .ok (.iload_n 2, 1) := by decide +kernel
theorem d_M_holds_28 : decode b_M_holds 28 = .ok (.iaload, 1) := by decide +kernel
theorem d_M_holds_29 : decode b_M_holds 29 = .ok (.ireturn, 1) := by decide +kernel
theorem d_M_holds_30 : decode b_M_holds 30 = .ok (.aload_n 0, 1) := by decide +kernel
theorem d_M_holds_31 : decode b_M_holds 31 = .ok (.iload_n 1, 1) := by decide +kernel
theorem d_M_holds_32 : decode b_M_holds 32 = .ok (.invokevirtual 103, 3) := by decide +kernel
theorem d_M_holds_35 : decode b_M_holds 35 = .ok (.ifCond .eq 11, 3) := by decide +kernel
theorem d_M_holds_38 : decode b_M_holds 38 = .ok (.aload_n 0, 1) := by decide +kernel
theorem d_M_holds_39 : decode b_M_holds 39 = .ok (.iload_n 1, 1) := by decide +kernel
theorem d_M_holds_40 : decode b_M_holds 40 = .ok (.invokevirtual 48, 3) := by decide +kernel
theorem d_M_holds_43 : decode b_M_holds 43 = .ok (.goto 4, 3) := by decide +kernel
theorem d_M_holds_46 : decode b_M_holds 46 = .ok (.iconst (-1), 1) := by decide +kernel
theorem d_M_holds_47 : decode b_M_holds 47 = .ok (.istore_n 3, 1) := by decide +kernel
theorem d_M_holds_48 : decode b_M_holds 48 = .ok (.iload_n 3, 1) := by decide +kernel
theorem d_M_holds_49 : decode b_M_holds 49 = .ok (.iconst (-1), 1) := by decide +kernel
theorem d_M_holds_50 : decode b_M_holds 50 = .ok (.if_icmp .ne 7, 3) := by decide +kernel
theorem d_M_holds_53 : decode b_M_holds 53 = .ok (.iconst 0, 1) := by decide +kernel
theorem d_M_holds_54 : decode b_M_holds 54 = .ok (.goto 9, 3) := by decide +kernel
theorem d_M_holds_57 : decode b_M_holds 57 = .ok (.aload_n 0, 1) := by decide +kernel
theorem d_M_holds_58 : decode b_M_holds 58 = .ok (.getfield 19, 3) := by decide +kernel
theorem d_M_holds_61 : decode b_M_holds 61 = .ok (.iload_n 3, 1) := by decide +kernel
theorem d_M_holds_62 : decode b_M_holds 62 = .ok (.iaload, 1) := by decide +kernel
theorem d_M_holds_63 : decode b_M_holds 63 = .ok (.ireturn, 1) := by decide +kernel
theorem d_M_buffered_0 : decode b_M_buffered 0 = .ok (.aload_n 0, 1) := by decide +kernel
theorem d_M_buffered_1 : decode b_M_buffered 1 = .ok (.getfield 100, 3) := by decide +kernel
theorem d_M_buffered_4 : decode b_M_buffered 4 = .ok (.ireturn, 1) := by decide +kernel
theorem d_M_place_0 : decode b_M_place 0 = .ok (.aload_n 0, 1) := by decide +kernel
theorem d_M_place_1 : decode b_M_place 1 = .ok (.iload_n 1, 1) := by decide +kernel
theorem d_M_place_2 : decode b_M_place 2 = .ok (.invokevirtual 103, 3) := by decide +kernel
theorem d_M_place_5 : decode b_M_place 5 = .ok (.ifCond .eq 11, 3) := by decide +kernel
theorem d_M_place_8 : decode b_M_place 8 = .ok (.aload_n 0, 1) := by decide +kernel
theorem d_M_place_9 : decode b_M_place 9 = .ok (.iload_n 1, 1) := by decide +kernel
theorem d_M_place_10 : decode b_M_place 10 = .ok (.invokevirtual 48, 3) := by decide +kernel
theorem d_M_place_13 : decode b_M_place 13 = .ok (.goto 4, 3) := by decide +kernel
theorem d_M_place_16 : decode b_M_place 16 = .ok (.iconst (-1), 1) := by decide +kernel
theorem d_M_place_17 : decode b_M_place 17 = .ok (.ireturn, 1) := by decide +kernel
theorem d_M_tag_0 : decode b_M_tag 0 = .ok (.aload_n 0, 1) := by decide +kernel
theorem d_M_tag_1 : decode b_M_tag 1 = .ok (.iload_n 1, 1) := by decide +kernel
theorem d_M_tag_2 : decode b_M_tag 2 = .ok (.invokevirtual 119, 3) := by decide +kernel
theorem d_M_tag_5 : decode b_M_tag 5 = .ok (.ifCond .eq 12, 3) := by decide +kernel
theorem d_M_tag_8 : decode b_M_tag 8 = .ok (.aload_n 0, 1) := by decide +kernel
theorem d_M_tag_9 : decode b_M_tag 9 = .ok (.getfield 7, 3) := by decide +kernel
theorem d_M_tag_12 : decode b_M_tag 12 = .ok (.iload_n 1, 1) := by decide +kernel
theorem d_M_tag_13 : decode b_M_tag 13 = .ok (.iaload, 1) := by decide +kernel
theorem d_M_tag_14 : decode b_M_tag 14 = .ok (.goto 4, 3) := by decide +kernel
theorem d_M_tag_17 : decode b_M_tag 17 = .ok (.iconst (-1), 1) := by decide +kernel
theorem d_M_tag_18 : decode b_M_tag 18 = .ok (.ireturn, 1) := by decide +kernel
theorem d_M_isPlace_0 : decode b_M_isPlace 0 = .ok (.iload_n 1, 1) := by decide +kernel
theorem d_M_isPlace_1 : decode b_M_isPlace 1 = .ok (.ifCond .lt 17, 3) := by decide +kernel
theorem d_M_isPlace_4 : decode b_M_isPlace 4 = .ok (.iload_n 1, 1) := by decide +kernel
theorem d_M_isPlace_5 : decode b_M_isPlace 5 = .ok (.iconst 4, 1) := by decide +kernel
theorem d_M_isPlace_6 : decode b_M_isPlace 6 = .ok (.aload_n 0, 1) := by decide +kernel
theorem d_M_isPlace_7 : decode b_M_isPlace 7 = .ok (.getfield 38, 3) := by decide +kernel
theorem d_M_isPlace_10 : decode b_M_isPlace 10 = .ok (.imul, 1) := by decide +kernel
theorem d_M_isPlace_11 : decode b_M_isPlace 11 = .ok (.if_icmp .ge 7, 3) := by decide +kernel
theorem d_M_isPlace_14 : decode b_M_isPlace 14 = .ok (.iconst 1, 1) := by decide +kernel
theorem d_M_isPlace_15 : decode b_M_isPlace 15 = .ok (.goto 4, 3) := by decide +kernel
theorem d_M_isPlace_18 : decode b_M_isPlace 18 = .ok (.iconst 0, 1) := by decide +kernel
theorem d_M_isPlace_19 : decode b_M_isPlace 19 = .ok (.ireturn, 1) := by decide +kernel
theorem d_M_serial_0 : decode b_M_serial 0 = .ok (.aload_n 0, 1) := by decide +kernel
theorem d_M_serial_1 : decode b_M_serial 1 = .ok (.iload_n 1, 1) := by decide +kernel
theorem d_M_serial_2 : decode b_M_serial 2 = .ok (.invokevirtual 119, 3) := by decide +kernel
theorem d_M_serial_5 : decode b_M_serial 5 = .ok (.ifCond .eq 22, 3) := by decide +kernel
theorem d_M_serial_8 : decode b_M_serial 8 = .ok (.aload_n 0, 1) := by decide +kernel
theorem d_M_serial_9 : decode b_M_serial 9 = .ok (.getfield 7, 3) := by decide +kernel
theorem d_M_serial_12 : decode b_M_serial 12 = .ok (.iload_n 1, 1) := by decide +kernel
theorem d_M_serial_13 : decode b_M_serial 13 = .ok (.iaload, 1) := by decide +kernel
theorem d_M_serial_14 : decode b_M_serial 14 = .ok (.iconst (-1), 1) := by decide +kernel
theorem d_M_serial_15 : decode b_M_serial 15 = .ok (.if_icmp .eq 12, 3) := by decide +kernel
theorem d_M_serial_18 : decode b_M_serial 18 = .ok (.aload_n 0, 1) := by decide +kernel
theorem d_M_serial_19 : decode b_M_serial 19 = .ok (.getfield 16, 3) := by decide +kernel
theorem d_M_serial_22 : decode b_M_serial 22 = .ok (.iload_n 1, 1) := by decide +kernel
theorem d_M_serial_23 : decode b_M_serial 23 = .ok (.iaload, 1) := by decide +kernel
theorem d_M_serial_24 : decode b_M_serial 24 = .ok (.goto 4, 3) := by decide +kernel
theorem d_M_serial_27 : decode b_M_serial 27 = .ok (.iconst (-1), 1) := by decide +kernel
theorem d_M_serial_28 : decode b_M_serial 28 = .ok (.ireturn, 1) := by decide +kernel
theorem d_M_valid_0 : decode b_M_valid 0 = .ok (.aload_n 0, 1) := by decide +kernel
theorem d_M_valid_1 : decode b_M_valid 1 = .ok (.iload_n 1, 1) := by decide +kernel
theorem d_M_valid_2 : decode b_M_valid 2 = .ok (.invokevirtual 122, 3) := by decide +kernel
theorem d_M_valid_5 : decode b_M_valid 5 = .ok (.ifCond .eq 11, 3) := by decide +kernel
theorem d_M_valid_8 : decode b_M_valid 8 = .ok (.aload_n 0, 1) := by decide +kernel
theorem d_M_valid_9 : decode b_M_valid 9 = .ok (.iload_n 1, 1) := by decide +kernel
theorem d_M_valid_10 : decode b_M_valid 10 = .ok (.invokevirtual 60, 3) := by decide +kernel
theorem d_M_valid_13 : decode b_M_valid 13 = .ok (.goto 4, 3) := by decide +kernel
theorem d_M_valid_16 : decode b_M_valid 16 = .ok (.iconst (-1), 1) := by decide +kernel
theorem d_M_valid_17 : decode b_M_valid 17 = .ok (.ireturn, 1) := by decide +kernel
theorem d_M_isBlock_0 : decode b_M_isBlock 0 = .ok (.iload_n 1, 1) := by decide +kernel
theorem d_M_isBlock_1 : decode b_M_isBlock 1 = .ok (.ifCond .lt 15, 3) := by decide +kernel
theorem d_M_isBlock_4 : decode b_M_isBlock 4 = .ok (.iload_n 1, 1) := by decide +kernel
theorem d_M_isBlock_5 : decode b_M_isBlock 5 = .ok (.aload_n 0, 1) := by decide +kernel
theorem d_M_isBlock_6 : decode b_M_isBlock 6 = .ok (.getfield 38, 3) := by decide +kernel
theorem d_M_isBlock_9 : decode b_M_isBlock 9 = .ok (.if_icmp .ge 7, 3) := by decide +kernel
theorem d_M_isBlock_12 : decode b_M_isBlock 12 = .ok (.iconst 1, 1) := by decide +kernel
theorem d_M_isBlock_13 : decode b_M_isBlock 13 = .ok (.goto 4, 3) := by decide +kernel
theorem d_M_isBlock_16 : decode b_M_isBlock 16 = .ok (.iconst 0, 1) := by decide +kernel
theorem d_M_isBlock_17 : decode b_M_isBlock 17 = .ok (.ireturn, 1) := by decide +kernel
theorem d_M_erasures_0 : decode b_M_erasures 0 = .ok (.aload_n 0, 1) := by decide +kernel
theorem d_M_erasures_1 : decode b_M_erasures 1 = .ok (.iload_n 1, 1) := by decide +kernel
theorem d_M_erasures_2 : decode b_M_erasures 2 = .ok (.invokevirtual 122, 3) := by decide +kernel
theorem d_M_erasures_5 : decode b_M_erasures 5 = .ok (.ifCond .eq 12, 3) := by decide +kernel
theorem d_M_erasures_8 : decode b_M_erasures 8 = .ok (.aload_n 0, 1) := by decide +kernel
theorem d_M_erasures_9 : decode b_M_erasures 9 = .ok (.getfield 22, 3) := by decide +kernel
theorem d_M_erasures_12 : decode b_M_erasures 12 = .ok (.iload_n 1, 1) := by decide +kernel
theorem d_M_erasures_13 : decode b_M_erasures 13 = .ok (.iaload, 1) := by decide +kernel
theorem d_M_erasures_14 : decode b_M_erasures 14 = .ok (.goto 4, 3) := by decide +kernel
theorem d_M_erasures_17 : decode b_M_erasures 17 = .ok (.iconst (-1), 1) := by decide +kernel
theorem d_M_erasures_18 : decode b_M_erasures 18 = .ok (.ireturn, 1) := by decide +kernel
theorem d_M_open_0 : decode b_M_open 0 = .ok (.aload_n 0, 1) := by decide +kernel
theorem d_M_open_1 : decode b_M_open 1 = .ok (.getfield 25, 3) := by decide +kernel
theorem d_M_open_4 : decode b_M_open 4 = .ok (.ireturn, 1) := by decide +kernel
theorem d_M_free_0 : decode b_M_free 0 = .ok (.aload_n 0, 1) := by decide +kernel
theorem d_M_free_1 : decode b_M_free 1 = .ok (.invokevirtual 84, 3) := by decide +kernel
theorem d_M_free_4 : decode b_M_free 4 = .ok (.ireturn, 1) := by decide +kernel
theorem d_M_operations_0 : decode b_M_operations 0 = .ok (.aload_n 0, 1) := by decide +kernel
theorem d_M_operations_1 : decode b_M_operations 1 = .ok (.getfield 70, 3) := by decide +kernel
theorem d_M_operations_4 : decode b_M_operations 4 = .ok (.ireturn, 1) := by decide +kernel
theorem d_law_0 : decode code 0 = .ok (.new 7, 3) := by decide +kernel
theorem d_law_3 : decode code 3 = .ok (.dup, 1) := by decide +kernel
theorem d_law_4 : decode code 4 = .ok (.aload_n 0, 1) := by decide +kernel
theorem d_law_5 : decode code 5 = .ok (.iconst 0, 1) := by decide +kernel
theorem d_law_6 : decode code 6 = .ok (.invokestatic 9, 3) := by decide +kernel
theorem d_law_9 : decode code 9 = .ok (.aload_n 0, 1) := by decide +kernel
theorem d_law_10 : decode code 10 = .ok (.iconst 1, 1) := by decide +kernel
theorem d_law_11 : decode code 11 = .ok (.invokestatic 9, 3) := by decide +kernel
theorem d_law_14 : decode code 14 = .ok (.invokespecial 15, 3) := by decide +kernel
theorem d_law_17 : decode code 17 = .ok (.astore_n 1, 1) := by decide +kernel
theorem d_law_18 : decode code 18 = .ok (.new 18, 3) := by decide +kernel
theorem d_law_21 : decode code 21 = .ok (.dup, 1) := by decide +kernel
theorem d_law_22 : decode code 22 = .ok (.aload_n 0, 1) := by decide +kernel
theorem d_law_23 : decode code 23 = .ok (.iconst 0, 1) := by decide +kernel
theorem d_law_24 : decode code 24 = .ok (.invokestatic 9, 3) := by decide +kernel
theorem d_law_27 : decode code 27 = .ok (.aload_n 0, 1) := by decide +kernel
theorem d_law_28 : decode code 28 = .ok (.iconst 1, 1) := by decide +kernel
theorem d_law_29 : decode code 29 = .ok (.invokestatic 9, 3) := by decide +kernel
theorem d_law_32 : decode code 32 = .ok (.invokespecial 20, 3) := by decide +kernel
theorem d_law_35 : decode code 35 = .ok (.astore_n 2, 1) := by decide +kernel
theorem d_law_36 : decode code 36 = .ok (.iconst 2, 1) := by decide +kernel
theorem d_law_37 : decode code 37 = .ok (.istore_n 3, 1) := by decide +kernel
theorem d_law_38 : decode code 38 = .ok (.iload_n 3, 1) := by decide +kernel
theorem d_law_39 : decode code 39 = .ok (.aload_n 0, 1) := by decide +kernel
theorem d_law_40 : decode code 40 = .ok (.arraylength, 1) := by decide +kernel
theorem d_law_41 : decode code 41 = .ok (.iconst 3, 1) := by decide +kernel
theorem d_law_42 : decode code 42 = .ok (.isub, 1) := by decide +kernel
theorem d_law_43 : decode code 43 = .ok (.if_icmp .gt 428, 3) := by decide +kernel
theorem d_law_46 : decode code 46 = .ok (.aload_n 0, 1) := by decide +kernel
theorem d_law_47 : decode code 47 = .ok (.iload_n 3, 1) := by decide +kernel
theorem d_law_48 : decode code 48 = .ok (.iaload, 1) := by decide +kernel
theorem d_law_49 : decode code 49 = .ok (.bipush 31, 2) := by decide +kernel
theorem d_law_51 : decode code 51 = .ok (.iand, 1) := by decide +kernel
theorem d_law_52 : decode code 52 = .ok (.tableswitch 413 0 16 #[84, 97, 130, 153, 166, 177, 200, 223, 246, 259, 282, 305, 328, 351, 374, 387, 400], 84) := by decide +kernel
theorem d_law_136 : decode code 136 = .ok (.aload_n 1, 1) := by decide +kernel
theorem d_law_137 : decode code 137 = .ok (.invokevirtual 21, 3) := by decide +kernel
theorem d_law_140 : decode code 140 = .ok (.aload_n 2, 1) := by decide +kernel
theorem d_law_141 : decode code 141 = .ok (.invokevirtual 25, 3) := by decide +kernel
theorem d_law_144 : decode code 144 = .ok (.if_icmp .eq 321, 3) := by decide +kernel
theorem d_law_147 : decode code 147 = .ok (.iconst 0, 1) := by decide +kernel
theorem d_law_148 : decode code 148 = .ok (.ireturn, 1) := by decide +kernel
theorem d_law_149 : decode code 149 = .ok (.aload_n 1, 1) := by decide +kernel
theorem d_law_150 : decode code 150 = .ok (.aload_n 0, 1) := by decide +kernel
theorem d_law_151 : decode code 151 = .ok (.iload_n 3, 1) := by decide +kernel
theorem d_law_152 : decode code 152 = .ok (.iconst 1, 1) := by decide +kernel
theorem d_law_153 : decode code 153 = .ok (.iadd, 1) := by decide +kernel
theorem d_law_154 : decode code 154 = .ok (.iaload, 1) := by decide +kernel
theorem d_law_155 : decode code 155 = .ok (.aload_n 0, 1) := by decide +kernel
theorem d_law_156 : decode code 156 = .ok (.iload_n 3, 1) := by decide +kernel
theorem d_law_157 : decode code 157 = .ok (.iconst 2, 1) := by decide +kernel
theorem d_law_158 : decode code 158 = .ok (.iadd, 1) := by decide +kernel
theorem d_law_159 : decode code 159 = .ok (.iaload, 1) := by decide +kernel
theorem d_law_160 : decode code 160 = .ok (.invokevirtual 26, 3) := by decide +kernel
theorem d_law_163 : decode code 163 = .ok (.aload_n 2, 1) := by decide +kernel
theorem d_law_164 : decode code 164 = .ok (.aload_n 0, 1) := by decide +kernel
theorem d_law_165 : decode code 165 = .ok (.iload_n 3, 1) := by decide +kernel
theorem d_law_166 : decode code 166 = .ok (.iconst 1, 1) := by decide +kernel
theorem d_law_167 : decode code 167 = .ok (.iadd, 1) := by decide +kernel
theorem d_law_168 : decode code 168 = .ok (.iaload, 1) := by decide +kernel
theorem d_law_169 : decode code 169 = .ok (.aload_n 0, 1) := by decide +kernel
theorem d_law_170 : decode code 170 = .ok (.iload_n 3, 1) := by decide +kernel
theorem d_law_171 : decode code 171 = .ok (.iconst 2, 1) := by decide +kernel
theorem d_law_172 : decode code 172 = .ok (.iadd, 1) := by decide +kernel
theorem d_law_173 : decode code 173 = .ok (.iaload, 1) := by decide +kernel
theorem d_law_174 : decode code 174 = .ok (.invokevirtual 30, 3) := by decide +kernel
theorem d_law_177 : decode code 177 = .ok (.if_icmp .eq 288, 3) := by decide +kernel
theorem d_law_180 : decode code 180 = .ok (.iconst 0, 1) := by decide +kernel
theorem d_law_181 : decode code 181 = .ok (.ireturn, 1) := by decide +kernel
theorem d_law_182 : decode code 182 = .ok (.aload_n 1, 1) := by decide +kernel
theorem d_law_183 : decode code 183 = .ok (.aload_n 0, 1) := by decide +kernel
theorem d_law_184 : decode code 184 = .ok (.iload_n 3, 1) := by decide +kernel
theorem d_law_185 : decode code 185 = .ok (.iconst 1, 1) := by decide +kernel
theorem d_law_186 : decode code 186 = .ok (.iadd, 1) := by decide +kernel
theorem d_law_187 : decode code 187 = .ok (.iaload, 1) := by decide +kernel
theorem d_law_188 : decode code 188 = .ok (.invokevirtual 31, 3) := by decide +kernel
theorem d_law_191 : decode code 191 = .ok (.aload_n 2, 1) := by decide +kernel
theorem d_law_192 : decode code 192 = .ok (.aload_n 0, 1) := by decide +kernel
theorem d_law_193 : decode code 193 = .ok (.iload_n 3, 1) := by decide +kernel
theorem d_law_194 : decode code 194 = .ok (.iconst 1, 1) := by decide +kernel
theorem d_law_195 : decode code 195 = .ok (.iadd, 1) := by decide +kernel
theorem d_law_196 : decode code 196 = .ok (.iaload, 1) := by decide +kernel
theorem d_law_197 : decode code 197 = .ok (.invokevirtual 35, 3) := by decide +kernel
theorem d_law_200 : decode code 200 = .ok (.if_icmp .eq 265, 3) := by decide +kernel
theorem d_law_203 : decode code 203 = .ok (.iconst 0, 1) := by decide +kernel
theorem d_law_204 : decode code 204 = .ok (.ireturn, 1) := by decide +kernel
theorem d_law_205 : decode code 205 = .ok (.aload_n 1, 1) := by decide +kernel
theorem d_law_206 : decode code 206 = .ok (.invokevirtual 36, 3) := by decide +kernel
theorem d_law_209 : decode code 209 = .ok (.aload_n 2, 1) := by decide +kernel
theorem d_law_210 : decode code 210 = .ok (.invokevirtual 39, 3) := by decide +kernel
theorem d_law_213 : decode code 213 = .ok (.if_icmp .eq 252, 3) := by decide +kernel
theorem d_law_216 : decode code 216 = .ok (.iconst 0, 1) := by decide +kernel
theorem d_law_217 : decode code 217 = .ok (.ireturn, 1) := by decide +kernel
theorem d_law_218 : decode code 218 = .ok (.aload_n 1, 1) := by decide +kernel
theorem d_law_219 : decode code 219 = .ok (.invokevirtual 40, 3) := by decide +kernel
theorem d_law_222 : decode code 222 = .ok (.aload_n 2, 1) := by decide +kernel
theorem d_law_223 : decode code 223 = .ok (.invokevirtual 43, 3) := by decide +kernel
theorem d_law_226 : decode code 226 = .ok (.goto 239, 3) := by decide +kernel
theorem d_law_229 : decode code 229 = .ok (.aload_n 1, 1) := by decide +kernel
theorem d_law_230 : decode code 230 = .ok (.aload_n 0, 1) := by decide +kernel
theorem d_law_231 : decode code 231 = .ok (.iload_n 3, 1) := by decide +kernel
theorem d_law_232 : decode code 232 = .ok (.iconst 1, 1) := by decide +kernel
theorem d_law_233 : decode code 233 = .ok (.iadd, 1) := by decide +kernel
theorem d_law_234 : decode code 234 = .ok (.iaload, 1) := by decide +kernel
theorem d_law_235 : decode code 235 = .ok (.invokevirtual 44, 3) := by decide +kernel
theorem d_law_238 : decode code 238 = .ok (.aload_n 2, 1) := by decide +kernel
theorem d_law_239 : decode code 239 = .ok (.aload_n 0, 1) := by decide +kernel
theorem d_law_240 : decode code 240 = .ok (.iload_n 3, 1) := by decide +kernel
theorem d_law_241 : decode code 241 = .ok (.iconst 1, 1) := by decide +kernel
theorem d_law_242 : decode code 242 = .ok (.iadd, 1) := by decide +kernel
theorem d_law_243 : decode code 243 = .ok (.iaload, 1) := by decide +kernel
theorem d_law_244 : decode code 244 = .ok (.invokevirtual 48, 3) := by decide +kernel
theorem d_law_247 : decode code 247 = .ok (.if_icmp .eq 218, 3) := by decide +kernel
theorem d_law_250 : decode code 250 = .ok (.iconst 0, 1) := by decide +kernel
theorem d_law_251 : decode code 251 = .ok (.ireturn, 1) := by decide +kernel
theorem d_law_252 : decode code 252 = .ok (.aload_n 1, 1) := by decide +kernel
theorem d_law_253 : decode code 253 = .ok (.aload_n 0, 1) := by decide +kernel
theorem d_law_254 : decode code 254 = .ok (.iload_n 3, 1) := by decide +kernel
theorem d_law_255 : decode code 255 = .ok (.iconst 1, 1) := by decide +kernel
theorem d_law_256 : decode code 256 = .ok (.iadd, 1) := by decide +kernel
theorem d_law_257 : decode code 257 = .ok (.iaload, 1) := by decide +kernel
theorem d_law_258 : decode code 258 = .ok (.invokevirtual 49, 3) := by decide +kernel
theorem d_law_261 : decode code 261 = .ok (.aload_n 2, 1) := by decide +kernel
theorem d_law_262 : decode code 262 = .ok (.aload_n 0, 1) := by decide +kernel
theorem d_law_263 : decode code 263 = .ok (.iload_n 3, 1) := by decide +kernel
theorem d_law_264 : decode code 264 = .ok (.iconst 1, 1) := by decide +kernel
theorem d_law_265 : decode code 265 = .ok (.iadd, 1) := by decide +kernel
theorem d_law_266 : decode code 266 = .ok (.iaload, 1) := by decide +kernel
theorem d_law_267 : decode code 267 = .ok (.invokevirtual 52, 3) := by decide +kernel
theorem d_law_270 : decode code 270 = .ok (.if_icmp .eq 195, 3) := by decide +kernel
theorem d_law_273 : decode code 273 = .ok (.iconst 0, 1) := by decide +kernel
theorem d_law_274 : decode code 274 = .ok (.ireturn, 1) := by decide +kernel
theorem d_law_275 : decode code 275 = .ok (.aload_n 1, 1) := by decide +kernel
theorem d_law_276 : decode code 276 = .ok (.aload_n 0, 1) := by decide +kernel
theorem d_law_277 : decode code 277 = .ok (.iload_n 3, 1) := by decide +kernel
theorem d_law_278 : decode code 278 = .ok (.iconst 1, 1) := by decide +kernel
theorem d_law_279 : decode code 279 = .ok (.iadd, 1) := by decide +kernel
theorem d_law_280 : decode code 280 = .ok (.iaload, 1) := by decide +kernel
theorem d_law_281 : decode code 281 = .ok (.invokevirtual 53, 3) := by decide +kernel
theorem d_law_284 : decode code 284 = .ok (.aload_n 2, 1) := by decide +kernel
theorem d_law_285 : decode code 285 = .ok (.aload_n 0, 1) := by decide +kernel
theorem d_law_286 : decode code 286 = .ok (.iload_n 3, 1) := by decide +kernel
theorem d_law_287 : decode code 287 = .ok (.iconst 1, 1) := by decide +kernel
theorem d_law_288 : decode code 288 = .ok (.iadd, 1) := by decide +kernel
theorem d_law_289 : decode code 289 = .ok (.iaload, 1) := by decide +kernel
theorem d_law_290 : decode code 290 = .ok (.invokevirtual 56, 3) := by decide +kernel
theorem d_law_293 : decode code 293 = .ok (.if_icmp .eq 172, 3) := by decide +kernel
theorem d_law_296 : decode code 296 = .ok (.iconst 0, 1) := by decide +kernel
theorem d_law_297 : decode code 297 = .ok (.ireturn, 1) := by decide +kernel
theorem d_law_298 : decode code 298 = .ok (.aload_n 1, 1) := by decide +kernel
theorem d_law_299 : decode code 299 = .ok (.invokevirtual 57, 3) := by decide +kernel
theorem d_law_302 : decode code 302 = .ok (.aload_n 2, 1) := by decide +kernel
theorem d_law_303 : decode code 303 = .ok (.invokevirtual 60, 3) := by decide +kernel
theorem d_law_306 : decode code 306 = .ok (.if_icmp .eq 159, 3) := by decide +kernel
theorem d_law_309 : decode code 309 = .ok (.iconst 0, 1) := by decide +kernel
theorem d_law_310 : decode code 310 = .ok (.ireturn, 1) := by decide +kernel
theorem d_law_311 : decode code 311 = .ok (.aload_n 1, 1) := by decide +kernel
theorem d_law_312 : decode code 312 = .ok (.aload_n 0, 1) := by decide +kernel
theorem d_law_313 : decode code 313 = .ok (.iload_n 3, 1) := by decide +kernel
theorem d_law_314 : decode code 314 = .ok (.iconst 1, 1) := by decide +kernel
theorem d_law_315 : decode code 315 = .ok (.iadd, 1) := by decide +kernel
theorem d_law_316 : decode code 316 = .ok (.iaload, 1) := by decide +kernel
theorem d_law_317 : decode code 317 = .ok (.invokevirtual 61, 3) := by decide +kernel
theorem d_law_320 : decode code 320 = .ok (.aload_n 2, 1) := by decide +kernel
theorem d_law_321 : decode code 321 = .ok (.aload_n 0, 1) := by decide +kernel
theorem d_law_322 : decode code 322 = .ok (.iload_n 3, 1) := by decide +kernel
theorem d_law_323 : decode code 323 = .ok (.iconst 1, 1) := by decide +kernel
theorem d_law_324 : decode code 324 = .ok (.iadd, 1) := by decide +kernel
theorem d_law_325 : decode code 325 = .ok (.iaload, 1) := by decide +kernel
theorem d_law_326 : decode code 326 = .ok (.invokevirtual 64, 3) := by decide +kernel
theorem d_law_329 : decode code 329 = .ok (.if_icmp .eq 136, 3) := by decide +kernel
theorem d_law_332 : decode code 332 = .ok (.iconst 0, 1) := by decide +kernel
theorem d_law_333 : decode code 333 = .ok (.ireturn, 1) := by decide +kernel
theorem d_law_334 : decode code 334 = .ok (.aload_n 1, 1) := by decide +kernel
theorem d_law_335 : decode code 335 = .ok (.aload_n 0, 1) := by decide +kernel
theorem d_law_336 : decode code 336 = .ok (.iload_n 3, 1) := by decide +kernel
theorem d_law_337 : decode code 337 = .ok (.iconst 1, 1) := by decide +kernel
theorem d_law_338 : decode code 338 = .ok (.iadd, 1) := by decide +kernel
theorem d_law_339 : decode code 339 = .ok (.iaload, 1) := by decide +kernel
theorem d_law_340 : decode code 340 = .ok (.invokevirtual 65, 3) := by decide +kernel
theorem d_law_343 : decode code 343 = .ok (.aload_n 2, 1) := by decide +kernel
theorem d_law_344 : decode code 344 = .ok (.aload_n 0, 1) := by decide +kernel
theorem d_law_345 : decode code 345 = .ok (.iload_n 3, 1) := by decide +kernel
theorem d_law_346 : decode code 346 = .ok (.iconst 1, 1) := by decide +kernel
theorem d_law_347 : decode code 347 = .ok (.iadd, 1) := by decide +kernel
theorem d_law_348 : decode code 348 = .ok (.iaload, 1) := by decide +kernel
theorem d_law_349 : decode code 349 = .ok (.invokevirtual 68, 3) := by decide +kernel
theorem d_law_352 : decode code 352 = .ok (.if_icmp .eq 113, 3) := by decide +kernel
theorem d_law_355 : decode code 355 = .ok (.iconst 0, 1) := by decide +kernel
theorem d_law_356 : decode code 356 = .ok (.ireturn, 1) := by decide +kernel
theorem d_law_357 : decode code 357 = .ok (.aload_n 1, 1) := by decide +kernel
theorem d_law_358 : decode code 358 = .ok (.aload_n 0, 1) := by decide +kernel
theorem d_law_359 : decode code 359 = .ok (.iload_n 3, 1) := by decide +kernel
theorem d_law_360 : decode code 360 = .ok (.iconst 1, 1) := by decide +kernel
theorem d_law_361 : decode code 361 = .ok (.iadd, 1) := by decide +kernel
theorem d_law_362 : decode code 362 = .ok (.iaload, 1) := by decide +kernel
theorem d_law_363 : decode code 363 = .ok (.invokevirtual 69, 3) := by decide +kernel
theorem d_law_366 : decode code 366 = .ok (.aload_n 2, 1) := by decide +kernel
theorem d_law_367 : decode code 367 = .ok (.aload_n 0, 1) := by decide +kernel
theorem d_law_368 : decode code 368 = .ok (.iload_n 3, 1) := by decide +kernel
theorem d_law_369 : decode code 369 = .ok (.iconst 1, 1) := by decide +kernel
theorem d_law_370 : decode code 370 = .ok (.iadd, 1) := by decide +kernel
theorem d_law_371 : decode code 371 = .ok (.iaload, 1) := by decide +kernel
theorem d_law_372 : decode code 372 = .ok (.invokevirtual 72, 3) := by decide +kernel
theorem d_law_375 : decode code 375 = .ok (.if_icmp .eq 90, 3) := by decide +kernel
theorem d_law_378 : decode code 378 = .ok (.iconst 0, 1) := by decide +kernel
theorem d_law_379 : decode code 379 = .ok (.ireturn, 1) := by decide +kernel
theorem d_law_380 : decode code 380 = .ok (.aload_n 1, 1) := by decide +kernel
theorem d_law_381 : decode code 381 = .ok (.aload_n 0, 1) := by decide +kernel
theorem d_law_382 : decode code 382 = .ok (.iload_n 3, 1) := by decide +kernel
theorem d_law_383 : decode code 383 = .ok (.iconst 1, 1) := by decide +kernel
theorem d_law_384 : decode code 384 = .ok (.iadd, 1) := by decide +kernel
theorem d_law_385 : decode code 385 = .ok (.iaload, 1) := by decide +kernel
theorem d_law_386 : decode code 386 = .ok (.invokevirtual 73, 3) := by decide +kernel
theorem d_law_389 : decode code 389 = .ok (.aload_n 2, 1) := by decide +kernel
theorem d_law_390 : decode code 390 = .ok (.aload_n 0, 1) := by decide +kernel
theorem d_law_391 : decode code 391 = .ok (.iload_n 3, 1) := by decide +kernel
theorem d_law_392 : decode code 392 = .ok (.iconst 1, 1) := by decide +kernel
theorem d_law_393 : decode code 393 = .ok (.iadd, 1) := by decide +kernel
theorem d_law_394 : decode code 394 = .ok (.iaload, 1) := by decide +kernel
theorem d_law_395 : decode code 395 = .ok (.invokevirtual 76, 3) := by decide +kernel
theorem d_law_398 : decode code 398 = .ok (.if_icmp .eq 67, 3) := by decide +kernel
theorem d_law_401 : decode code 401 = .ok (.iconst 0, 1) := by decide +kernel
theorem d_law_402 : decode code 402 = .ok (.ireturn, 1) := by decide +kernel
theorem d_law_403 : decode code 403 = .ok (.aload_n 1, 1) := by decide +kernel
theorem d_law_404 : decode code 404 = .ok (.aload_n 0, 1) := by decide +kernel
theorem d_law_405 : decode code 405 = .ok (.iload_n 3, 1) := by decide +kernel
theorem d_law_406 : decode code 406 = .ok (.iconst 1, 1) := by decide +kernel
theorem d_law_407 : decode code 407 = .ok (.iadd, 1) := by decide +kernel
theorem d_law_408 : decode code 408 = .ok (.iaload, 1) := by decide +kernel
theorem d_law_409 : decode code 409 = .ok (.invokevirtual 77, 3) := by decide +kernel
theorem d_law_412 : decode code 412 = .ok (.aload_n 2, 1) := by decide +kernel
theorem d_law_413 : decode code 413 = .ok (.aload_n 0, 1) := by decide +kernel
theorem d_law_414 : decode code 414 = .ok (.iload_n 3, 1) := by decide +kernel
theorem d_law_415 : decode code 415 = .ok (.iconst 1, 1) := by decide +kernel
theorem d_law_416 : decode code 416 = .ok (.iadd, 1) := by decide +kernel
theorem d_law_417 : decode code 417 = .ok (.iaload, 1) := by decide +kernel
theorem d_law_418 : decode code 418 = .ok (.invokevirtual 80, 3) := by decide +kernel
theorem d_law_421 : decode code 421 = .ok (.if_icmp .eq 44, 3) := by decide +kernel
theorem d_law_424 : decode code 424 = .ok (.iconst 0, 1) := by decide +kernel
theorem d_law_425 : decode code 425 = .ok (.ireturn, 1) := by decide +kernel
theorem d_law_426 : decode code 426 = .ok (.aload_n 1, 1) := by decide +kernel
theorem d_law_427 : decode code 427 = .ok (.invokevirtual 81, 3) := by decide +kernel
theorem d_law_430 : decode code 430 = .ok (.aload_n 2, 1) := by decide +kernel
theorem d_law_431 : decode code 431 = .ok (.invokevirtual 84, 3) := by decide +kernel
theorem d_law_434 : decode code 434 = .ok (.if_icmp .eq 31, 3) := by decide +kernel
theorem d_law_437 : decode code 437 = .ok (.iconst 0, 1) := by decide +kernel
theorem d_law_438 : decode code 438 = .ok (.ireturn, 1) := by decide +kernel
theorem d_law_439 : decode code 439 = .ok (.aload_n 1, 1) := by decide +kernel
theorem d_law_440 : decode code 440 = .ok (.invokevirtual 85, 3) := by decide +kernel
theorem d_law_443 : decode code 443 = .ok (.aload_n 2, 1) := by decide +kernel
theorem d_law_444 : decode code 444 = .ok (.invokevirtual 88, 3) := by decide +kernel
theorem d_law_447 : decode code 447 = .ok (.if_icmp .eq 18, 3) := by decide +kernel
theorem d_law_450 : decode code 450 = .ok (.iconst 0, 1) := by decide +kernel
theorem d_law_451 : decode code 451 = .ok (.ireturn, 1) := by decide +kernel
theorem d_law_452 : decode code 452 = .ok (.aload_n 1, 1) := by decide +kernel
theorem d_law_453 : decode code 453 = .ok (.invokevirtual 89, 3) := by decide +kernel
theorem d_law_456 : decode code 456 = .ok (.aload_n 2, 1) := by decide +kernel
theorem d_law_457 : decode code 457 = .ok (.invokevirtual 92, 3) := by decide +kernel
theorem d_law_460 : decode code 460 = .ok (.if_icmp .eq 5, 3) := by decide +kernel
theorem d_law_463 : decode code 463 = .ok (.iconst 0, 1) := by decide +kernel
theorem d_law_464 : decode code 464 = .ok (.ireturn, 1) := by decide +kernel
theorem d_law_465 : decode code 465 = .ok (.iinc 3 3, 3) := by decide +kernel
theorem d_law_468 : decode code 468 = .ok (.goto (-430), 3) := by decide +kernel
theorem d_law_471 : decode code 471 = .ok (.iconst 1, 1) := by decide +kernel
theorem d_law_472 : decode code 472 = .ok (.ireturn, 1) := by decide +kernel
end
section
/-! THE LAYER: the tables in one word (Tb); a world as a function from places to cells; rows over it; contracts -/
def Tb (s : State) : Prop := (∀ (a : Array Value) (w : Cond), w ∈ tbG → w.before a s = true) ∧ (∀ w ∈ tbN, va_Nw w s) ∧ va_AO "WornFlash$Block" s ∧ va_AO "WornFlash$Entry" s ∧ va_Fw R_G y_P_prefers y_G_prefers s ∧ va_Fw R_V y_P_prefers y_V_prefers s
theorem tbN_warm {s U : State} (hW : s.WarmedH U.vm) : ∀ w ∈ tbN, va_Nw w s → va_Nw w U := by
  intro w hw h
  simp only [tbN, List.mem_cons, List.not_mem_nil, or_false] at hw
  rcases hw with rfl | rfl | rfl | rfl | rfl | rfl | rfl | rfl | rfl | rfl | rfl | rfl | rfl | rfl | rfl <;> first | exact va_Nw.warmF hW h | exact va_Nw.warmM hW h
theorem tb_good {w : Cond} (hw : w ∈ tbG) : (w.onTables && w.keeps) = true ∨ ∃ ty, w = .arrayClass ty := good_of_word (List.mem_filter.mp hw).2
theorem Tb.warm {s U : State} (hW : s.WarmedH U.vm) (h : Tb s) : Tb U := by
  obtain ⟨h1, h2, h3, h4, h5, h6⟩ := h
  exact ⟨fun a w hw => word_at hW (tb_good hw) (h1 #[] w hw), fun w hw => tbN_warm hW w hw (h2 w hw), h3.moved hW.alike, h4.moved hW.alike, h5.moved ⟨by decide +kernel, by decide +kernel⟩ hW.alike, h6.moved ⟨by decide +kernel, by decide +kernel⟩ hW.alike⟩
theorem Tb.calling {U : State} {g : JFrame} {mk : MethodId} {a : Array Value} (h : Tb U) : Tb (U.calling g mk a) := Tb.warm (U := U.calling g mk a) (State.WarmedH.refl U) h
theorem Tb.hts {s : State} (h : Tb s) (a : Array Value) : ∀ w ∈ tbG, w.before a s = true := h.1 a
/-- arrays' classes -/
abbrev tyC (cs : Nat → ClassId) : List (ClassId × FieldType) := [(cs 0, .byte), (cs 1, .int), (cs 2, .boolean), (cs 3, .object R_B), (cs 4, .object R_E)]
/-- a world: n cells, cell j at the address ad j, holding e j -/
def wX (ad : Nat → Nat) (n : Nat) (e : Nat → va_E) : va_W := (List.range n).map fun j => (ad j, e j)
def AX (ad : Nat → Nat) (n : Nat) : Nat → Prop := fun q => ∃ j, j < n ∧ q = ad j
def Geo (ad : Nat → Nat) (n : Nat) : Prop := ∀ i j, i < n → j < n → ad i = ad j → i = j
theorem wX_at {ad : Nat → Nat} {n : Nat} {e : Nat → va_E} {j : Nat} (h : j < n) : (wX ad n e)[j]? = some (ad j, e j) := by
  simp [wX, h]
theorem wX_of {ad : Nat → Nat} {n : Nat} {e : Nat → va_E} {j : Nat} {q : Nat × va_E} (h : (wX ad n e)[j]? = some q) : j < n ∧ q = (ad j, e j) := by
  have hl : j < n := by
    have := (List.getElem?_eq_some_iff.mp h).1
    simpa [wX] using this
  refine ⟨hl, ?_⟩
  rw [wX_at hl] at h
  exact (Option.some.inj h).symm
theorem wX_set {ad : Nat → Nat} {n : Nat} {e : Nat → va_E} {j : Nat} (x : va_E) (h : j < n) : (wX ad n e).set j (ad j, x) = wX ad n (va_up e j x) := by
  apply List.ext_getElem?
  intro i
  by_cases hi : i = j
  · subst hi
    rw [List.getElem?_set_self (by simpa [wX] using h), wX_at h, va_up_self]
  · rw [List.getElem?_set_ne (Ne.symm hi)]
    by_cases hn : i < n
    · rw [wX_at hn, wX_at hn, va_up_ne _ _ hi]
    · rw [List.getElem?_eq_none (by simp [wX]; omega), List.getElem?_eq_none (by simp [wX]; omega)]
theorem wX_D {ad : Nat → Nat} {n : Nat} {e : Nat → va_E} (hG : Geo ad n) : va_D (AX ad n) (wX ad n e) := by
  refine ⟨fun i j p q hi hj h => ?_, fun k q hk => ?_⟩
  · obtain ⟨h1, rfl⟩ := wX_of hi
    obtain ⟨h2, rfl⟩ := wX_of hj
    exact hG i j h1 h2 h
  · obtain ⟨h1, rfl⟩ := wX_of hk
    exact ⟨k, h1, rfl⟩
theorem wX_congr {ad : Nat → Nat} {n : Nat} {e e' : Nat → va_E} (h : ∀ j, j < n → e j = e' j) : wX ad n e = wX ad n e' := by
  unfold wX
  apply List.map_congr_left
  intro j hj
  rw [h j (List.mem_range.mp hj)]
/-- what holds in a body: machine, code, tables, class numbers, the addresses apart -/
def Cc (p : Program) (m : MethodId) (c : Code) (cc : ByteArray) (nL : Nat) (s : State) (args : Array Value) (own : String) (D : va_G) (cs : Nat → ClassId) : Prop := CallFix p m c cc nL s args tbG own ∧ Tb s ∧ va_K D classes (tyC cs) s
/-- the heap holds the world e; since s nothing else has changed -/
def In (D : va_G) (ad : Nat → Nat) (n : Nat) (s : State) (e : Nat → va_E) (H : Heap) (locs : List Loc) : Prop := Geo ad n ∧ va_P D classes (wX ad n e) H ∧ va_S (AX ad n) s.heap H locs
theorem In.congr {D : va_G} {ad : Nat → Nat} {n : Nat} {s : State} {e e' : Nat → va_E} {H : Heap} {locs : List Loc} (h : In D ad n s e H locs) (he : ∀ j, j < n → e j = e' j) : In D ad n s e' H locs := ⟨h.1, by rw [← wX_congr he]; exact h.2.1, h.2.2⟩
section LX
variable {p : Program} {l : Launch} {e : Env} {R : Room} {s : State} {m : MethodId} {args : Array Value} {below : List Frame} {meth : Method} {c : Code} {H : Heap} {locs : List Loc} {cells slots : Nat} {Q : State → Prop}
variable {cc : ByteArray} {nL pc : Nat} {ls : Array Slot} {rest : List Value} {D : va_G} {cs : Nat → ClassId} {own : String} {ad : Nat → Nat} {n : Nat} {E : Nat → va_E}
theorem x_gf (C : Cc p m c cc nL s args own D cs) (hI : In D ad n s E H locs) {ref Cn : String} {T : u_T} {N ci index : Nat} (hin : ∀ w ∈ u_ws Cn T N, w ∈ tbG) (j : Nat) (hj : j < n) {fs : List Value} (he : E j = .inr (ci, fs)) (hc : classes[ci]? = some (Cn, T, N)) (k : Nat) (hk : k < N) (hlink : Cond.fieldLink own index ref (T k).2.1 (T k).2.2.1 ∈ tbG) (hr : (T k).1 = ref) {v : Value} (hv : fs[k]? = some v) (hdg : decode cc pc = .ok (.getfield index, 3))
    (kk : W p l e R s m args below meth c H locs cells slots Q (F0 m (pc + 3) ls (v :: rest))) : W p l e R s m args below meth c H locs cells slots Q (F0 m pc ls (.ref (ad j) :: rest)) :=
  va_get (D := D) (cl := classes) (ci := ci) (C := Cn) (T := T) (N := N) C.1.1 C.1.2.1 (C.2.1.hts args) hin C.1.2.2.2.1 C.2.2 hI.2.1 j (by rw [wX_at hj, he]) hc k hk (C.2.1.hts args _ hlink) (fun x h => by rw [← hr]; exact h) hv hdg kk
theorem x_gfN (C : Cc p m c cc nL s args own D cs) (hI : In D ad n s E H locs) {ref Cn host : String} {T : u_T} {N ci index : Nat} (hin : ∀ w ∈ u_ws Cn T N, w ∈ tbG) (j : Nat) (hj : j < n) {fs : List Value} (he : E j = .inr (ci, fs)) (hc : classes[ci]? = some (Cn, T, N)) (k : Nat) (hk : k < N) (hlink : Cond.fieldLinkNest own index ref (T k).2.1 (T k).2.2.1 host ∈ tbN) (hr : (T k).1 = ref) {v : Value} (hv : fs[k]? = some v) (hdg : decode cc pc = .ok (.getfield index, 3))
    (kk : W p l e R s m args below meth c H locs cells slots Q (F0 m (pc + 3) ls (v :: rest))) : W p l e R s m args below meth c H locs cells slots Q (F0 m pc ls (.ref (ad j) :: rest)) :=
  va_getN (D := D) (cl := classes) (ci := ci) (C := Cn) (T := T) (N := N) C.1.1 C.1.2.1 (C.2.1.hts args) hin C.1.2.2.2.1 C.2.2 hI.2.1 j (by rw [wX_at hj, he]) hc k hk (va_Nw.use rfl (C.2.1.2.1 _ hlink)) (fun x h => by rw [← hr]; exact h) hv hdg kk
theorem x_pf (C : Cc p m c cc nL s args own D cs) (hI : In D ad n s E H locs) {ref Cn : String} {T : u_T} {N ci index : Nat} (hin : ∀ w ∈ u_ws Cn T N, w ∈ tbG) (ty0 : Nat → FieldType) (hty : ∀ k, k < N → parseFieldDescriptor (T k).2.2.1 = some (ty0 k)) (hnm : ∀ a, a < N → ∀ b, b < N → a ≠ b → (T a).2.1 ≠ (T b).2.1) (j : Nat) (hj : j < n) {fs : List Value} (he : E j = .inr (ci, fs)) (hc : classes[ci]? = some (Cn, T, N)) (k : Nat) (hk : k < N) (hlink : Cond.fieldLink own index ref (T k).2.1 (T k).2.2.1 ∈ tbG) (hr : (T k).1 = ref) (hfin : (T k).2.2.2 = false) {v : Value} (hn : narrow (ty0 k) v = v) (hfit : fits (ty0 k) v = true) (hl : k < fs.length) (hdg : decode cc pc = .ok (.putfield index, 3))
    (kk : ∀ (H1 : Heap) (locs1 : List Loc), In D ad n s (va_up E j (.inr (ci, fs.set k v))) H1 locs1 → W p l e R s m args below meth c H1 locs1 cells slots Q (F0 m (pc + 3) ls rest)) : W p l e R s m args below meth c H locs cells slots Q (F0 m pc ls (v :: .ref (ad j) :: rest)) :=
  va_put (D := D) (cl := classes) (ci := ci) (C := Cn) (T := T) (N := N) C.1.1 C.1.2.1 (C.2.1.hts args) hin ty0 hty hnm C.1.2.2.2.1 C.2.2 hI.2.1 (wX_D hI.1) hI.2.2 j (by rw [wX_at hj, he]) hc k hk (C.2.1.hts args _ hlink) (fun x h => by rw [← hr]; exact h) hfin (hty k hk) hn hfit hl hdg (fun H1 locs1 h1 _ h3 => kk H1 locs1 ⟨hI.1, by rw [wX_set _ hj] at h1; exact h1, h3⟩)
theorem x_pfN (C : Cc p m c cc nL s args own D cs) (hI : In D ad n s E H locs) {ref Cn host : String} {T : u_T} {N ci index : Nat} (hin : ∀ w ∈ u_ws Cn T N, w ∈ tbG) (ty0 : Nat → FieldType) (hty : ∀ k, k < N → parseFieldDescriptor (T k).2.2.1 = some (ty0 k)) (hnm : ∀ a, a < N → ∀ b, b < N → a ≠ b → (T a).2.1 ≠ (T b).2.1) (j : Nat) (hj : j < n) {fs : List Value} (he : E j = .inr (ci, fs)) (hc : classes[ci]? = some (Cn, T, N)) (k : Nat) (hk : k < N) (hlink : Cond.fieldLinkNest own index ref (T k).2.1 (T k).2.2.1 host ∈ tbN) (hr : (T k).1 = ref) (hfin : (T k).2.2.2 = false) {v : Value} (hn : narrow (ty0 k) v = v) (hfit : fits (ty0 k) v = true) (hl : k < fs.length) (hdg : decode cc pc = .ok (.putfield index, 3))
    (kk : ∀ (H1 : Heap) (locs1 : List Loc), In D ad n s (va_up E j (.inr (ci, fs.set k v))) H1 locs1 → W p l e R s m args below meth c H1 locs1 cells slots Q (F0 m (pc + 3) ls rest)) : W p l e R s m args below meth c H locs cells slots Q (F0 m pc ls (v :: .ref (ad j) :: rest)) :=
  va_putN (D := D) (cl := classes) (ci := ci) (C := Cn) (T := T) (N := N) C.1.1 C.1.2.1 (C.2.1.hts args) hin ty0 hty hnm C.1.2.2.2.1 C.2.2 hI.2.1 (wX_D hI.1) hI.2.2 j (by rw [wX_at hj, he]) hc k hk (va_Nw.use rfl (C.2.1.2.1 _ hlink)) (fun x h => by rw [← hr]; exact h) hfin (hty k hk) hn hfit hl hdg (fun H1 locs1 h1 _ h3 => kk H1 locs1 ⟨hI.1, by rw [wX_set _ hj] at h1; exact h1, h3⟩)
theorem x_cl {i N : Nat} (h : i < N) (hN : N < 2 ^ 31) : (nI i).toNatClampNeg = i := nI_clamp (by omega)
theorem x_iald (C : Cc p m c cc nL s args own D cs) (hI : In D ad n s E H locs) (j : Nat) (hj : j < n) {N : Nat} {f : Nat → Int32} (he : E j = .inl (cs 1, N, .inl f)) {i : Nat} (hi : i < N) (hN : N < 2 ^ 31) {v : Int32} (hv : f i = v) (hdg : decode cc pc = .ok (.iaload, 1))
    (kk : W p l e R s m args below meth c H locs cells slots Q (F0 m (pc + 1) ls (.int v :: rest))) : W p l e R s m args below meth c H locs cells slots Q (F0 m pc ls (.int (nI i) :: .ref (ad j) :: rest)) :=
  va_iald (D := D) (cl := classes) C.1.1 C.1.2.1 C.2.2 hI.2.1 j 1 (by rw [wX_at hj, he]) rfl (vp_in_nI hi hN) hdg (by rw [x_cl hi hN, hv]; exact kk)
theorem x_bald (C : Cc p m c cc nL s args own D cs) (hI : In D ad n s E H locs) (j : Nat) (hj : j < n) {N : Nat} {f : Nat → Int32} (he : E j = .inl (cs 0, N, .inl f)) {i : Nat} (hi : i < N) (hN : N < 2 ^ 31) {v : Int32} (hv : f i = v) (hdg : decode cc pc = .ok (.baload, 1))
    (kk : W p l e R s m args below meth c H locs cells slots Q (F0 m (pc + 1) ls (.int v :: rest))) : W p l e R s m args below meth c H locs cells slots Q (F0 m pc ls (.int (nI i) :: .ref (ad j) :: rest)) :=
  va_bald (D := D) (cl := classes) C.1.1 C.1.2.1 C.2.2 hI.2.1 j 0 (by rw [wX_at hj, he]) rfl (vp_in_nI hi hN) hdg (by rw [x_cl hi hN, hv]; exact kk)
theorem x_zald (C : Cc p m c cc nL s args own D cs) (hI : In D ad n s E H locs) (j : Nat) (hj : j < n) {N : Nat} {f : Nat → Int32} (he : E j = .inl (cs 2, N, .inl f)) {i : Nat} (hi : i < N) (hN : N < 2 ^ 31) {v : Int32} (hv : f i = v) (hdg : decode cc pc = .ok (.baload, 1))
    (kk : W p l e R s m args below meth c H locs cells slots Q (F0 m (pc + 1) ls (.int v :: rest))) : W p l e R s m args below meth c H locs cells slots Q (F0 m pc ls (.int (nI i) :: .ref (ad j) :: rest)) :=
  va_zald (D := D) (cl := classes) C.1.1 C.1.2.1 C.2.2 hI.2.1 j 2 (by rw [wX_at hj, he]) rfl (vp_in_nI hi hN) hdg (by rw [x_cl hi hN, hv]; exact kk)
theorem x_aald (C : Cc p m c cc nL s args own D cs) (hI : In D ad n s E H locs) (j : Nat) (hj : j < n) {t0 N : Nat} {cA : ClassId} {Cn : String} {f : Nat → Option Nat} (he : E j = .inl (cA, N, .inr (.inr (.inr (.inr f))))) (ht : (tyC cs)[t0]? = some (cA, .object Cn)) {i : Nat} (hi : i < N) (hN : N < 2 ^ 31) {v : Option Nat} (hv : f i = v) (hdg : decode cc pc = .ok (.aaload, 1))
    (kk : W p l e R s m args below meth c H locs cells slots Q (F0 m (pc + 1) ls (va_rf v :: rest))) : W p l e R s m args below meth c H locs cells slots Q (F0 m pc ls (.int (nI i) :: .ref (ad j) :: rest)) :=
  va_aldq (D := D) (cl := classes) C.1.1 C.1.2.1 C.2.2 hI.2.1 j t0 (by rw [wX_at hj, he]) ht (vp_in_nI hi hN) hdg (by rw [x_cl hi hN, hv]; exact kk)
theorem x_upd (f : Nat → Int32) (k : Nat) (x : Int32) : upd f k x = va_up f k x := rfl
theorem x_iast (C : Cc p m c cc nL s args own D cs) (hI : In D ad n s E H locs) (j : Nat) (hj : j < n) {N : Nat} {f : Nat → Int32} (he : E j = .inl (cs 1, N, .inl f)) {i : Nat} {x : Int32} (hi : i < N) (hN : N < 2 ^ 31) (hdg : decode cc pc = .ok (.iastore, 1))
    (kk : ∀ (H1 : Heap) (locs1 : List Loc), In D ad n s (va_up E j (.inl (cs 1, N, .inl (va_up f i x)))) H1 locs1 → W p l e R s m args below meth c H1 locs1 cells slots Q (F0 m (pc + 1) ls rest)) : W p l e R s m args below meth c H locs cells slots Q (F0 m pc ls (.int x :: .int (nI i) :: .ref (ad j) :: rest)) :=
  va_iast (D := D) (cl := classes) C.1.1 C.1.2.1 C.2.2 hI.2.1 (wX_D hI.1) hI.2.2 j 1 (by rw [wX_at hj, he]) rfl (vp_in_nI hi hN) hdg (fun H1 locs1 h1 _ h3 => kk H1 locs1 ⟨hI.1, by rw [wX_set _ hj, x_cl hi hN, x_upd] at h1; exact h1, h3⟩)
theorem x_bast (C : Cc p m c cc nL s args own D cs) (hI : In D ad n s E H locs) (j : Nat) (hj : j < n) {N : Nat} {f : Nat → Int32} (he : E j = .inl (cs 0, N, .inl f)) {i : Nat} {x v : Int32} (hi : i < N) (hN : N < 2 ^ 31) (hv : vp_nar .byte x = v) (hdg : decode cc pc = .ok (.bastore, 1))
    (kk : ∀ (H1 : Heap) (locs1 : List Loc), In D ad n s (va_up E j (.inl (cs 0, N, .inl (va_up f i v)))) H1 locs1 → W p l e R s m args below meth c H1 locs1 cells slots Q (F0 m (pc + 1) ls rest)) : W p l e R s m args below meth c H locs cells slots Q (F0 m pc ls (.int x :: .int (nI i) :: .ref (ad j) :: rest)) :=
  va_bast (D := D) (cl := classes) C.1.1 C.1.2.1 C.2.2 hI.2.1 (wX_D hI.1) hI.2.2 j 0 (by rw [wX_at hj, he]) rfl (vp_in_nI hi hN) hdg (fun H1 locs1 h1 _ h3 => kk H1 locs1 ⟨hI.1, by rw [wX_set _ hj, x_cl hi hN, x_upd, hv] at h1; exact h1, h3⟩)
theorem x_zast (C : Cc p m c cc nL s args own D cs) (hI : In D ad n s E H locs) (j : Nat) (hj : j < n) {N : Nat} {f : Nat → Int32} (he : E j = .inl (cs 2, N, .inl f)) {i : Nat} {x v : Int32} (hi : i < N) (hN : N < 2 ^ 31) (hv : vp_nar .boolean x = v) (hdg : decode cc pc = .ok (.bastore, 1))
    (kk : ∀ (H1 : Heap) (locs1 : List Loc), In D ad n s (va_up E j (.inl (cs 2, N, .inl (va_up f i v)))) H1 locs1 → W p l e R s m args below meth c H1 locs1 cells slots Q (F0 m (pc + 1) ls rest)) : W p l e R s m args below meth c H locs cells slots Q (F0 m pc ls (.int x :: .int (nI i) :: .ref (ad j) :: rest)) :=
  va_zast (D := D) (cl := classes) C.1.1 C.1.2.1 C.2.2 hI.2.1 (wX_D hI.1) hI.2.2 j 2 (by rw [wX_at hj, he]) rfl (vp_in_nI hi hN) hdg (fun H1 locs1 h1 _ h3 => kk H1 locs1 ⟨hI.1, by rw [wX_set _ hj, x_cl hi hN, x_upd, hv] at h1; exact h1, h3⟩)
theorem x_aast (C : Cc p m c cc nL s args own D cs) (hI : In D ad n s E H locs) (j : Nat) (hj : j < n) {t0 N ci jv : Nat} {cA : ClassId} {r : vw_C} {f : Nat → Option Nat} {vs : List Value} (he : E j = .inl (cA, N, .inr (.inr (.inr (.inr f))))) (ht : (tyC cs)[t0]? = some (cA, .object r.1)) (hjv : jv < n) (hv : E jv = .inr (ci, vs)) (hc : classes[ci]? = some r) {i : Nat} (hi : i < N) (hN : N < 2 ^ 31) (hdg : decode cc pc = .ok (.aastore, 1))
    (kk : ∀ (H1 : Heap) (locs1 : List Loc), In D ad n s (va_up E j (.inl (cA, N, .inr (.inr (.inr (.inr (va_up f i (some (ad jv))))))))) H1 locs1 → W p l e R s m args below meth c H1 locs1 cells slots Q (F0 m (pc + 1) ls rest)) : W p l e R s m args below meth c H locs cells slots Q (F0 m pc ls (.ref (ad jv) :: .int (nI i) :: .ref (ad j) :: rest)) :=
  va_astq (D := D) (cl := classes) C.1.1 C.1.2.1 C.2.2 hI.2.1 (wX_D hI.1) hI.2.2 j t0 jv ci (by rw [wX_at hj, he]) ht (by rw [wX_at hjv, hv]) hc (vp_in_nI hi hN) hdg (fun H1 locs1 h1 _ h3 => kk H1 locs1 ⟨hI.1, by rw [wX_set _ hj, x_cl hi hN] at h1; exact h1, h3⟩)
theorem x_alen (C : Cc p m c cc nL s args own D cs) (hI : In D ad n s E H locs) (j : Nat) (hj : j < n) {t0 : Nat} {cA : ClassId} {x : vp_A} {ty : FieldType} (he : E j = .inl (cA, x)) (ht : (tyC cs)[t0]? = some (cA, ty)) {N : Nat} (hN : x.1 = N) (hdg : decode cc pc = .ok (.arraylength, 1))
    (kk : W p l e R s m args below meth c H locs cells slots Q (F0 m (pc + 1) ls (.int (nI N) :: rest))) : W p l e R s m args below meth c H locs cells slots Q (F0 m pc ls (.ref (ad j) :: rest)) :=
  va_alen (D := D) (cl := classes) C.1.1 C.1.2.1 C.2.2 hI.2.1 j t0 (by rw [wX_at hj, he]) ht (by rw [hN]; rfl) hdg kk
/-- the top of the stack, by another name -/
theorem top_i {x y : Int32} (h : x = y) (kk : W p l e R s m args below meth c H locs cells slots Q (F0 m pc ls (.int y :: rest))) : W p l e R s m args below meth c H locs cells slots Q (F0 m pc ls (.int x :: rest)) := by
  subst h; exact kk
end LX
end
section
/-! CONTRACTS: a method's words are its own code; the tables ride in the start (Tb, va_K) -/
abbrev rmD (d mc ms : Nat) : Room := { frames := d, cells := mc, slots := ms, locals := 27 * d }
abbrev PcX (D : va_G) (cs : Nat → ClassId) (av : List Value) (Hx : Heap → Prop) : Array Value → State → Prop := va_Pc av (fun U => Tb U ∧ va_K D classes (tyC cs) U ∧ Hx U.heap)
def MC (l : Launch) (D : va_G) (cs : Nat → ClassId) (y : MethodName) (cc : ByteArray) (nL : Nat) (ret : Option FieldType) (d mc ms : Nat) (av : List Value) (Hx : Heap → Prop) (Qc : Array Value → State → Outcome → State → Prop) (free : Addr → Prop) : Prop :=
  Met l y [.code y cc nL ret] (rmD d mc ms) (PcX D cs av Hx) Qc mc ms free
theorem MC.intro {l : Launch} {D : va_G} {cs : Nat → ClassId} {y : MethodName} {cc : ByteArray} {nL : Nat} {ret : Option FieldType} {d mc ms : Nat} {av : List Value} {Hx : Heap → Prop} {Qc : Array Value → State → Outcome → State → Prop} {free : Addr → Prop} (hy : plainName y.cls = true) (hn : (lg_sl av).length ≤ nL)
    (body : ∀ (p : Program) (e : Env) (s : State) (m : MethodId) (below : List Frame) (meth : Method) (c : Code), Cc p m c cc nL s av.toArray y.cls D cs → meth.sig.returnType = ret → meth.locks = false → meth.name = y.name → Hx s.heap → ∀ ls : Array Slot, lv_has ls nL (lv_args 0 av) →
      W p l e (rmD d mc ms) s m av.toArray below meth c s.heap [] 0 0 (MQ below Qc av.toArray s mc ms free) (F0 m 0 ls [])) : MC l D cs y cc nL ret d mc ms av Hx Qc free := by
  refine Met.ofW (cc := cc) (maxL := nL) (ret := ret) hy rfl ?_
  intro p e s m args below meth c s₁ B hml hv
  obtain ⟨rfl, hT, hK, hH⟩ := hv
  have hown := findClass_of_methodNamed B.named
  rw [lg_entry_eq]
  exact body p e s m below meth c ⟨⟨B.exec, B.bytes, hml, hown, hT.hts _⟩, hT, hK⟩ B.returns B.notSynchronized (name_of_methodNamed B.named B.method).1 hH _ (lv_entry av hn)
theorem PcX.blind {D : va_G} {cs : Nat → ClassId} {av : List Value} {Hx : Heap → Prop} : FrameBlind (PcX D cs av Hx) := fun a U g mk q => ⟨q.1, q.2.1.calling, va_K.moved (u := U) (U := U.calling g mk a) (Vm.Alike.refl U.vm) q.2.2.1, q.2.2.2⟩
theorem PcX.at {D : va_G} {cs : Nat → ClassId} {av : List Value} {Hx : Heap → Prop} {s : State} {H : Heap} (hT : Tb s) (hK : va_K D classes (tyC cs) s) (hH : Hx H) : ∀ U : State, U.heap = H → s.WarmedH U.vm → PcX D cs av Hx av.toArray U := fun U hU hW => ⟨rfl, hT.warm hW, va_K.moved hW.alike hK, by rw [hU]; exact hH⟩
/-- what the tables say of a method that is called: its code, its class, its parameters -/
def Yc (y : MethodName) (cc : ByteArray) (nL : Nat) (ret : Option FieldType) (n : Nat) : Prop := Cond.code y cc nL ret ∈ tbG ∧ Cond.initialized y.cls ∈ tbG ∧ y.cls ≠ "java/lang/invoke/MethodHandle" ∧ y.cls ≠ "java/lang/invoke/VarHandle" ∧ (parseMethodDescriptor y.desc).map (fun d => d.parameters.length) = some n
def Yv (y : MethodName) (cc : ByteArray) (nL : Nat) (ret : Option FieldType) (n : Nat) : Prop := Yc y cc nL ret n ∧ Cond.instanceMethod y ∈ tbG ∧ Cond.selects y.cls y y ∈ tbG
theorem good_one {w : Cond} (h : w ∈ tbG) : GoodIn tbG [w] := fun x hx => by
  rw [List.mem_singleton] at hx
  subst hx
  exact ⟨h, tb_good h⟩
section CX
variable {p : Program} {l : Launch} {e : Env} {R : Room} {s : State} {m : MethodId} {args : Array Value} {below : List Frame} {meth : Method} {c : Code} {H : Heap} {locs : List Loc} {cells slots : Nat} {Q : State → Prop}
variable {cc : ByteArray} {nL pc : Nat} {ls : Array Slot} {rest st : List Value} {D : va_G} {cs : Nat → ClassId} {own : String} {ad : Nat → Nat} {n : Nat} {E : Nat → va_E}
variable {y : MethodName} {bytes : ByteArray} {maxL d mc ms np index : Nat} {ret : Option FieldType} {b : Nat} {As : List Value} {Hx : Heap → Prop} {Qc : Array Value → State → Outcome → State → Prop} {free : Addr → Prop}
theorem y_cb (C : Cc p m c cc nL s args own D cs) (Y : Yc y bytes maxL ret np) (hl : Cond.methodLink own index y ∈ tbG) (hR : d + 1 ≤ R.frames ∧ 8 + (maxL + 11) + 27 * d ≤ R.locals) : CallB R s args own index y bytes maxL ret [.code y bytes maxL ret] (rmD d mc ms) mc ms np :=
  callB_of np (C.2.1.hts args) (good_one Y.1) rfl rfl rfl (C.2.1.hts args _ Y.2.1) (C.2.1.hts args _ hl) Y.2.2 hR
/-- the run of an instance method -/
theorem run_V (C : Cc p m c cc nL s args own D cs) (hM : MC l D cs y bytes maxL ret d mc ms (.ref b :: As) Hx Qc free) (Y : Yv y bytes maxL ret np) (hl : Cond.methodLink own index y ∈ tbG) (hR : d + 1 ≤ R.frames ∧ 8 + (maxL + 11) + 27 * d ≤ R.locals)
    (hr : ∃ cell : Cell, H[b]? = some cell ∧ cell.vm.isStatics = false ∧ s.vm.findClass y.cls = some cell.cls) (hH : Hx H) (hn : As.length = np) (hls : ls.size = nL) (hst : st = As.reverse ++ .ref b :: rest) (hW : (rest.map fun v => v.category).sum ≤ 8) (hdg : decode cc pc = .ok (.invokevirtual index, 3)) (hf : cells + mc ≤ R.cells ∧ slots + ms ≤ R.slots) :
    va_Run p l e R s m args below meth c H locs cells slots mc ms (F0 m pc ls st) rest (Qc (Value.ref b :: As).toArray) free :=
  va_runV (C := y.cls) C.1 hM ⟨y_cb C Y.1 hl hR, C.2.1.hts args _ Y.2.1, C.2.1.hts args _ Y.2.2⟩ ⟨PcX.blind, hr, PcX.at C.2.1 C.2.2 hH⟩ rfl hn hls hst (lv_room hW) hdg hf
theorem run_S (C : Cc p m c cc nL s args own D cs) (hM : MC l D cs y bytes maxL ret d mc ms As Hx Qc free) (Y : Yc y bytes maxL ret np) (hstt : Cond.static y ∈ tbG) (hl : Cond.methodLink own index y ∈ tbG) (hR : d + 1 ≤ R.frames ∧ 8 + (maxL + 11) + 27 * d ≤ R.locals)
    (hH : Hx H) (hn : As.length = np) (hls : ls.size = nL) (hst : st = As.reverse ++ rest) (hW : (rest.map fun v => v.category).sum ≤ 8) (hdg : decode cc pc = .ok (.invokestatic index, 3)) (hf : cells + mc ≤ R.cells ∧ slots + ms ≤ R.slots) :
    va_Run p l e R s m args below meth c H locs cells slots mc ms (F0 m pc ls st) rest (Qc As.toArray) free :=
  va_runS C.1 hM ⟨y_cb C Y hl hR, C.2.1.hts args _ hstt⟩ ⟨PcX.blind, PcX.at C.2.1 C.2.2 hH⟩ rfl hn hls hst (lv_room hW) hdg hf
theorem run_I (C : Cc p m c cc nL s args own D cs) (hM : MC l D cs y bytes maxL none d mc ms (.ref b :: As) Hx Qc free) (Y : Yc y bytes maxL none np) (hi : y.name = "<init>") (him : Cond.instanceMethod y ∈ tbG) (hl : Cond.methodLink own index y ∈ tbG) (hR : d + 1 ≤ R.frames ∧ 8 + (maxL + 11) + 27 * d ≤ R.locals)
    (hH : Hx H) (hn : As.length = np) (hls : ls.size = nL) (hst : st = As.reverse ++ .ref b :: rest) (hW : (rest.map fun v => v.category).sum ≤ 8) (hdg : decode cc pc = .ok (.invokespecial index, 3)) (hf : cells + mc ≤ R.cells ∧ slots + ms ≤ R.slots) :
    va_Run p l e R s m args below meth c H locs cells slots mc ms (F0 m pc ls st) rest (Qc (Value.ref b :: As).toArray) free :=
  va_runI C.1 hM ⟨y_cb C Y hl hR, hi, C.2.1.hts args _ him⟩ ⟨PcX.blind, PcX.at C.2.1 C.2.2 hH⟩ rfl hn hls hst (lv_room hW) hdg hf
theorem run_IN {host : String} (C : Cc p m c cc nL s args own D cs) (hM : MC l D cs y bytes maxL none d mc ms (.ref b :: As) Hx Qc free) (Y : Yc y bytes maxL none np) (hi : y.name = "<init>") (him : Cond.instanceMethod y ∈ tbG) (hl : Cond.methodLinkNest own index y host ∈ tbN) (hR : d + 1 ≤ R.frames ∧ 8 + (maxL + 11) + 27 * d ≤ R.locals)
    (hH : Hx H) (hn : As.length = np) (hls : ls.size = nL) (hst : st = As.reverse ++ .ref b :: rest) (hW : (rest.map fun v => v.category).sum ≤ 8) (hdg : decode cc pc = .ok (.invokespecial index, 3)) (hf : cells + mc ≤ R.cells ∧ slots + ms ≤ R.slots) :
    va_Run p l e R s m args below meth c H locs cells slots mc ms (F0 m pc ls st) rest (Qc (Value.ref b :: As).toArray) free :=
  va_runIN (host := host) C.1 hM ⟨va_cnB np (C.2.1.hts args) (good_one Y.1) rfl rfl rfl (C.2.1.2.1 _ hl) (C.2.1.hts args _ Y.2.1) Y.2.2 hR, hi, C.2.1.hts args _ him⟩ ⟨PcX.blind, PcX.at C.2.1 C.2.2 hH⟩ rfl hn hls hst (lv_room hW) hdg hf
/-- contracts of methods that only read -/
abbrev ROi (l : Launch) (D : va_G) (cs : Nat → ClassId) (ad : Nat → Nat) (n : Nat) (E : Nat → va_E) (y : MethodName) (cc : ByteArray) (nL : Nat) (ret : Option FieldType) (d : Nat) (av : List Value) (post : Int32 → Prop) : Prop := MC l D cs y cc nL ret d 0 0 av (fun H => va_P D classes (wX ad n E) H) (vp_Si post) (fun _ => False)
abbrev ROq (l : Launch) (D : va_G) (cs : Nat → ClassId) (ad : Nat → Nat) (n : Nat) (E : Nat → va_E) (y : MethodName) (cc : ByteArray) (nL : Nat) (ret : Option FieldType) (d : Nat) (av : List Value) (post : Option Nat → Prop) : Prop := MC l D cs y cc nL ret d 0 0 av (fun H => va_P D classes (wX ad n E) H) (va_Sq post) (fun _ => False)
/-- contracts of methods that write: ec makes cells of a state -/
abbrev RWi {S : Type} (l : Launch) (D : va_G) (cs : Nat → ClassId) (ad : Nat → Nat) (n : Nat) (ec : S → Nat → va_E) (y : MethodName) (cc : ByteArray) (nL : Nat) (ret : Option FieldType) (d : Nat) (av : List Value) (u0 : S) (post : Int32 → S → Prop) : Prop := MC l D cs y cc nL ret d 0 0 av (fun H => va_P D classes (wX ad n (ec u0)) H) (va_Qi post (fun u t => va_P D classes (wX ad n (ec u)) t.heap) (AX ad n)) (AX ad n)
abbrev RWv {S : Type} (l : Launch) (D : va_G) (cs : Nat → ClassId) (ad : Nat → Nat) (n : Nat) (ec : S → Nat → va_E) (y : MethodName) (cc : ByteArray) (nL : Nat) (ret : Option FieldType) (d : Nat) (av : List Value) (u0 : S) (post : S → Prop) : Prop := MC l D cs y cc nL ret d 0 0 av (fun H => va_P D classes (wX ad n (ec u0)) H) (va_Qv post (fun u t => va_P D classes (wX ad n (ec u)) t.heap) (AX ad n)) (AX ad n)
abbrev RWq {S : Type} (l : Launch) (D : va_G) (cs : Nat → ClassId) (ad : Nat → Nat) (n : Nat) (ec : S → Nat → va_E) (y : MethodName) (cc : ByteArray) (nL : Nat) (ret : Option FieldType) (d : Nat) (av : List Value) (u0 : S) (post : Option Nat → S → Prop) : Prop := MC l D cs y cc nL ret d 0 0 av (fun H => va_P D classes (wX ad n (ec u0)) H) (va_Qq post (fun u t => va_P D classes (wX ad n (ec u)) t.heap) (AX ad n)) (AX ad n)
theorem x_recv (C : Cc p m c cc nL s args own D cs) (hI : In D ad n s E H locs) {j ci : Nat} {fs : List Value} {r : vw_C} (hj : j < n) (he : E j = .inr (ci, fs)) (hc : classes[ci]? = some r) : ∃ cell : Cell, H[ad j]? = some cell ∧ cell.vm.isStatics = false ∧ s.vm.findClass r.1 = some cell.cls := va_recv C.2.2 hI.2.1 hc (by rw [wX_at hj, he])
/-- calls of instance methods on a cell of the world -/
theorem cv_ROi {post : Int32 → Prop} {j ci : Nat} {fs : List Value} {r : vw_C} (C : Cc p m c cc nL s args own D cs) (hI : In D ad n s E H locs) (hM : ROi l D cs ad n E y bytes maxL ret d (.ref (ad j) :: As) post) (Y : Yv y bytes maxL ret np) (hl : Cond.methodLink own index y ∈ tbG) (hR : d + 1 ≤ R.frames ∧ 8 + (maxL + 11) + 27 * d ≤ R.locals) (hj : j < n) (he : E j = .inr (ci, fs)) (hc : classes[ci]? = some r) (hy : r.1 = y.cls) (hn : As.length = np) (hls : ls.size = nL) (hst : st = As.reverse ++ .ref (ad j) :: rest) (hW : (rest.map fun v => v.category).sum ≤ 8) (hdg : decode cc pc = .ok (.invokevirtual index, 3)) (hf : cells ≤ R.cells ∧ slots ≤ R.slots)
    (kk : ∀ r : Int32, post r → W p l e R s m args below meth c H locs cells slots Q (F0 m (pc + 3) ls (.int r :: rest))) : W p l e R s m args below meth c H locs cells slots Q (F0 m pc ls st) :=
  vp_callSi (va_Run.run (run_V C hM Y hl hR (hy ▸ x_recv C hI hj he hc) hI.2.1 hn hls hst hW hdg hf)) kk
theorem cv_ROq {post : Option Nat → Prop} {j ci : Nat} {fs : List Value} {r : vw_C} (C : Cc p m c cc nL s args own D cs) (hI : In D ad n s E H locs) (hM : ROq l D cs ad n E y bytes maxL ret d (.ref (ad j) :: As) post) (Y : Yv y bytes maxL ret np) (hl : Cond.methodLink own index y ∈ tbG) (hR : d + 1 ≤ R.frames ∧ 8 + (maxL + 11) + 27 * d ≤ R.locals) (hj : j < n) (he : E j = .inr (ci, fs)) (hc : classes[ci]? = some r) (hy : r.1 = y.cls) (hn : As.length = np) (hls : ls.size = nL) (hst : st = As.reverse ++ .ref (ad j) :: rest) (hW : (rest.map fun v => v.category).sum ≤ 8) (hdg : decode cc pc = .ok (.invokevirtual index, 3)) (hf : cells ≤ R.cells ∧ slots ≤ R.slots)
    (kk : ∀ r : Option Nat, post r → W p l e R s m args below meth c H locs cells slots Q (F0 m (pc + 3) ls (va_rf r :: rest))) : W p l e R s m args below meth c H locs cells slots Q (F0 m pc ls st) :=
  va_csq (va_Run.run (run_V C hM Y hl hR (hy ▸ x_recv C hI hj he hc) hI.2.1 hn hls hst hW hdg hf)) kk
theorem cv_RWi {S : Type} {ec : S → Nat → va_E} {u0 : S} {post : Int32 → S → Prop} {j ci : Nat} {fs : List Value} {r : vw_C} (C : Cc p m c cc nL s args own D cs) (hI : In D ad n s (ec u0) H locs) (hM : RWi l D cs ad n ec y bytes maxL ret d (.ref (ad j) :: As) u0 post) (Y : Yv y bytes maxL ret np) (hl : Cond.methodLink own index y ∈ tbG) (hR : d + 1 ≤ R.frames ∧ 8 + (maxL + 11) + 27 * d ≤ R.locals) (hj : j < n) (he : ec u0 j = .inr (ci, fs)) (hc : classes[ci]? = some r) (hy : r.1 = y.cls) (hn : As.length = np) (hls : ls.size = nL) (hst : st = As.reverse ++ .ref (ad j) :: rest) (hW : (rest.map fun v => v.category).sum ≤ 8) (hdg : decode cc pc = .ok (.invokevirtual index, 3)) (hf : cells ≤ R.cells ∧ slots ≤ R.slots)
    (kk : ∀ (r : Int32) (u : S) (H1 : Heap) (locs1 : List Loc), post r u → In D ad n s (ec u) H1 locs1 → W p l e R s m args below meth c H1 locs1 cells slots Q (F0 m (pc + 3) ls (.int r :: rest))) : W p l e R s m args below meth c H locs cells slots Q (F0 m pc ls st) :=
  va_calli (run_V C hM Y hl hR (hy ▸ x_recv C hI hj he hc) hI.2.1 hn hls hst hW hdg hf) hI.2.2 (fun _ _ h => h) (fun _ h => h) (fun r u t H1 locs1 ht _ hp hB _ _ hS => kk r u H1 locs1 hp ⟨hI.1, by rw [← ht]; exact hB, hS⟩)
theorem cv_RWv {S : Type} {ec : S → Nat → va_E} {u0 : S} {post : S → Prop} {j ci : Nat} {fs : List Value} {r : vw_C} (C : Cc p m c cc nL s args own D cs) (hI : In D ad n s (ec u0) H locs) (hM : RWv l D cs ad n ec y bytes maxL ret d (.ref (ad j) :: As) u0 post) (Y : Yv y bytes maxL ret np) (hl : Cond.methodLink own index y ∈ tbG) (hR : d + 1 ≤ R.frames ∧ 8 + (maxL + 11) + 27 * d ≤ R.locals) (hj : j < n) (he : ec u0 j = .inr (ci, fs)) (hc : classes[ci]? = some r) (hy : r.1 = y.cls) (hn : As.length = np) (hls : ls.size = nL) (hst : st = As.reverse ++ .ref (ad j) :: rest) (hW : (rest.map fun v => v.category).sum ≤ 8) (hdg : decode cc pc = .ok (.invokevirtual index, 3)) (hf : cells ≤ R.cells ∧ slots ≤ R.slots)
    (kk : ∀ (u : S) (H1 : Heap) (locs1 : List Loc), post u → In D ad n s (ec u) H1 locs1 → W p l e R s m args below meth c H1 locs1 cells slots Q (F0 m (pc + 3) ls rest)) : W p l e R s m args below meth c H locs cells slots Q (F0 m pc ls st) :=
  va_callv (run_V C hM Y hl hR (hy ▸ x_recv C hI hj he hc) hI.2.1 hn hls hst hW hdg hf) hI.2.2 (fun _ _ h => h) (fun _ h => h) (fun u t H1 locs1 ht _ hp hB _ _ hS => kk u H1 locs1 hp ⟨hI.1, by rw [← ht]; exact hB, hS⟩)
theorem cv_RWq {S : Type} {ec : S → Nat → va_E} {u0 : S} {post : Option Nat → S → Prop} {j ci : Nat} {fs : List Value} {r : vw_C} (C : Cc p m c cc nL s args own D cs) (hI : In D ad n s (ec u0) H locs) (hM : RWq l D cs ad n ec y bytes maxL ret d (.ref (ad j) :: As) u0 post) (Y : Yv y bytes maxL ret np) (hl : Cond.methodLink own index y ∈ tbG) (hR : d + 1 ≤ R.frames ∧ 8 + (maxL + 11) + 27 * d ≤ R.locals) (hj : j < n) (he : ec u0 j = .inr (ci, fs)) (hc : classes[ci]? = some r) (hy : r.1 = y.cls) (hn : As.length = np) (hls : ls.size = nL) (hst : st = As.reverse ++ .ref (ad j) :: rest) (hW : (rest.map fun v => v.category).sum ≤ 8) (hdg : decode cc pc = .ok (.invokevirtual index, 3)) (hf : cells ≤ R.cells ∧ slots ≤ R.slots)
    (kk : ∀ (r : Option Nat) (u : S) (H1 : Heap) (locs1 : List Loc), post r u → In D ad n s (ec u) H1 locs1 → W p l e R s m args below meth c H1 locs1 cells slots Q (F0 m (pc + 3) ls (va_rf r :: rest))) : W p l e R s m args below meth c H locs cells slots Q (F0 m pc ls st) :=
  va_callq (run_V C hM Y hl hR (hy ▸ x_recv C hI hj he hc) hI.2.1 hn hls hst hW hdg hf) hI.2.2 (fun _ _ h => h) (fun _ h => h) (fun r u t H1 locs1 ht _ hp hB _ _ hS => kk r u H1 locs1 hp ⟨hI.1, by rw [← ht]; exact hB, hS⟩)
/-- a static method that reads no cell of ours -/
theorem cs_ROi {post : Int32 → Prop} (C : Cc p m c cc nL s args own D cs) (hM : MC l D cs y bytes maxL ret d 0 0 As Hx (vp_Si post) (fun _ => False)) (Y : Yc y bytes maxL ret np) (hstt : Cond.static y ∈ tbG) (hl : Cond.methodLink own index y ∈ tbG) (hR : d + 1 ≤ R.frames ∧ 8 + (maxL + 11) + 27 * d ≤ R.locals) (hH : Hx H) (hn : As.length = np) (hls : ls.size = nL) (hst : st = As.reverse ++ rest) (hW : (rest.map fun v => v.category).sum ≤ 8) (hdg : decode cc pc = .ok (.invokestatic index, 3)) (hf : cells ≤ R.cells ∧ slots ≤ R.slots)
    (kk : ∀ r : Int32, post r → W p l e R s m args below meth c H locs cells slots Q (F0 m (pc + 3) ls (.int r :: rest))) : W p l e R s m args below meth c H locs cells slots Q (F0 m pc ls st) :=
  vp_callSi (va_Run.run (run_S C hM Y hstt hl hR hH hn hls hst hW hdg hf)) kk
/-- ends -/
theorem rt_ROi {post : Int32 → Prop} {v : Int32} (C : Cc p m c cc nL s args own D cs) (hr : meth.sig.returnType = some .int) (hlocks : meth.locks = false) (hp : post v) (hdg : decode cc pc = .ok (.ireturn, 1)) : W p l e R s m args below meth c s.heap [] 0 0 (MQ below (vp_Si post) args s 0 0 (fun _ => False)) (F0 m pc ls [.int v]) :=
  W.iret C.1.1 C.1.2.1 hr (fun t ht _ => ⟨v, rfl, hp, ht⟩) (fun _ h => by cases h) hdg
theorem rt_ROz {post : Int32 → Prop} {v : Int32} (C : Cc p m c cc nL s args own D cs) (hr : meth.sig.returnType = some .boolean) (hlocks : meth.locks = false) (hn : narrow .boolean (.int v) = .int v) (hp : post v) (hdg : decode cc pc = .ok (.ireturn, 1)) : W p l e R s m args below meth c s.heap [] 0 0 (MQ below (vp_Si post) args s 0 0 (fun _ => False)) (F0 m pc ls [.int v]) :=
  W.zret C.1.1 C.1.2.1 hr hn (fun t ht _ => ⟨v, rfl, hp, ht⟩) (fun _ h => by cases h) hdg
theorem rt_ROq {post : Option Nat → Prop} {Cn : String} {v : Option Nat} (C : Cc p m c cc nL s args own D cs) (hr : meth.sig.returnType = some (.object Cn)) (hlocks : meth.locks = false) (hp : post v) (hdg : decode cc pc = .ok (.areturn, 1)) : W p l e R s m args below meth c s.heap [] 0 0 (MQ below (va_Sq post) args s 0 0 (fun _ => False)) (F0 m pc ls [va_rf v]) :=
  W.aret C.1.1 C.1.2.1 hr (Or.inl ⟨Cn, rfl⟩) (va_rf_or v) (fun t ht _ => ⟨v, rfl, hp, ht⟩) (fun _ h => by cases h) hdg
theorem rt_RWi {S : Type} {ec : S → Nat → va_E} {u : S} {post : Int32 → S → Prop} {v : Int32} (C : Cc p m c cc nL s args own D cs) (hI : In D ad n s (ec u) H locs) (hr : meth.sig.returnType = some .int) (hlocks : meth.locks = false) (hp : post v u) (hdg : decode cc pc = .ok (.ireturn, 1)) : W p l e R s m args below meth c H locs 0 0 (MQ below (va_Qi post (fun u t => va_P D classes (wX ad n (ec u)) t.heap) (AX ad n)) args s 0 0 (AX ad n)) (F0 m pc ls [.int v]) :=
  W.iret C.1.1 C.1.2.1 hr (fun t ht _ => ⟨⟨v, u, rfl, hp, (by rw [ht]; exact hI.2.1 : va_P D classes (wX ad n (ec u)) t.heap)⟩, hI.2.2.F ht⟩) hI.2.2.2.2 hdg
theorem rt_RWz {S : Type} {ec : S → Nat → va_E} {u : S} {post : Int32 → S → Prop} {v : Int32} (C : Cc p m c cc nL s args own D cs) (hI : In D ad n s (ec u) H locs) (hr : meth.sig.returnType = some .boolean) (hlocks : meth.locks = false) (hn : narrow .boolean (.int v) = .int v) (hp : post v u) (hdg : decode cc pc = .ok (.ireturn, 1)) : W p l e R s m args below meth c H locs 0 0 (MQ below (va_Qi post (fun u t => va_P D classes (wX ad n (ec u)) t.heap) (AX ad n)) args s 0 0 (AX ad n)) (F0 m pc ls [.int v]) :=
  W.zret C.1.1 C.1.2.1 hr hn (fun t ht _ => ⟨⟨v, u, rfl, hp, (by rw [ht]; exact hI.2.1 : va_P D classes (wX ad n (ec u)) t.heap)⟩, hI.2.2.F ht⟩) hI.2.2.2.2 hdg
theorem rt_RWv {S : Type} {ec : S → Nat → va_E} {u : S} {post : S → Prop} (C : Cc p m c cc nL s args own D cs) (hI : In D ad n s (ec u) H locs) (hr : meth.sig.returnType = none) (hlocks : meth.locks = false) (hp : post u) (hdg : decode cc pc = .ok (.return_, 1)) : W p l e R s m args below meth c H locs 0 0 (MQ below (va_Qv post (fun u t => va_P D classes (wX ad n (ec u)) t.heap) (AX ad n)) args s 0 0 (AX ad n)) (F0 m pc ls []) :=
  W.vret C.1.1 C.1.2.1 hr (fun t ht _ => ⟨⟨u, rfl, hp, (by rw [ht]; exact hI.2.1 : va_P D classes (wX ad n (ec u)) t.heap)⟩, hI.2.2.F ht⟩) hI.2.2.2.2 hdg
theorem rt_RWq {S : Type} {ec : S → Nat → va_E} {u : S} {post : Option Nat → S → Prop} {Cn : String} {v : Option Nat} (C : Cc p m c cc nL s args own D cs) (hI : In D ad n s (ec u) H locs) (hr : meth.sig.returnType = some (.object Cn)) (hlocks : meth.locks = false) (hp : post v u) (hdg : decode cc pc = .ok (.areturn, 1)) : W p l e R s m args below meth c H locs 0 0 (MQ below (va_Qq post (fun u t => va_P D classes (wX ad n (ec u)) t.heap) (AX ad n)) args s 0 0 (AX ad n)) (F0 m pc ls [va_rf v]) :=
  W.aret C.1.1 C.1.2.1 hr (Or.inl ⟨Cn, rfl⟩) (va_rf_or v) (fun t ht _ => ⟨⟨v, u, rfl, hp, (by rw [ht]; exact hI.2.1 : va_P D classes (wX ad n (ec u)) t.heap)⟩, hI.2.2.F ht⟩) hI.2.2.2.2 hdg
end CX
end
section
/-! NUMBERS: natural numbers in ints (nI), an optional one (oI: none is -1); rows of arithmetic and branches over them -/
def oI (o : Option Nat) : Int32 := match o with
  | none => -1
  | some j => nI j
theorem oI_none : oI none = -1 := rfl
theorem oI_some (j : Nat) : oI (some j) = nI j := rfl
theorem nI_nem1 {j : Nat} (h : j < 2 ^ 31) : ¬ nI j = -1 := by
  intro q
  have h1 := nI_toInt h
  rw [q] at h1
  have : ((-1 : Int32)).toInt = -1 := by decide
  omega
theorem nI_inc (i : Nat) : nI i + Int32.ofInt 1 = nI (i + 1) := nI_1 i
theorem nI_b8 {n : Nat} (h : n < 128) : vp_nar .byte (nI n) = nI n := by
  have hh : ∀ k, k < 128 → vp_nar .byte (nI k) = nI k := by decide +kernel
  exact hh n h
theorem nI_i2b {n : Nat} (h : n < 128) : (nI n).toInt8.toInt32 = nI n := by
  have hh : ∀ k, k < 128 → (nI k).toInt8.toInt32 = nI k := by decide +kernel
  exact hh n h
def bI (b : Bool) : Int32 := if b then 1 else 0
theorem bI_nar (b : Bool) : narrow .boolean (.int (bI b)) = .int (bI b) := by cases b <;> rfl
theorem bI_vn (b : Bool) : vp_nar .boolean (bI b) = bI b := by cases b <;> decide
theorem bI_fit (b : Bool) : fits .boolean (.int (bI b)) = true := by cases b <;> decide
section NX
variable {p : Program} {l : Launch} {e : Env} {R : Room} {s : State} {m : MethodId} {args : Array Value} {below : List Frame} {meth : Method} {c : Code} {H : Heap} {locs : List Loc} {cells slots : Nat} {Q : State → Prop}
variable {cc : ByteArray} {nL pc : Nat} {ls : Array Slot} {rest : List Value} {D : va_G} {cs : Nat → ClassId} {own : String} {a b : Nat} {off : Int} {tgt : Nat}
theorem an_add (C : Cc p m c cc nL s args own D cs) (hdg : decode cc pc = .ok (.iadd, 1)) (kk : W p l e R s m args below meth c H locs cells slots Q (F0 m (pc + 1) ls (.int (nI (a + b)) :: rest))) : W p l e R s m args below meth c H locs cells slots Q (F0 m pc ls (.int (nI b) :: .int (nI a) :: rest)) := t_iadd C.1.1 C.1.2.1 hdg (nI_add a b) kk
theorem an_sub (C : Cc p m c cc nL s args own D cs) (h : b ≤ a) (hdg : decode cc pc = .ok (.isub, 1)) (kk : W p l e R s m args below meth c H locs cells slots Q (F0 m (pc + 1) ls (.int (nI (a - b)) :: rest))) : W p l e R s m args below meth c H locs cells slots Q (F0 m pc ls (.int (nI b) :: .int (nI a) :: rest)) := t_isub C.1.1 C.1.2.1 hdg (pk_sub h) kk
theorem an_mul (C : Cc p m c cc nL s args own D cs) (hdg : decode cc pc = .ok (.imul, 1)) (kk : W p l e R s m args below meth c H locs cells slots Q (F0 m (pc + 1) ls (.int (nI (a * b)) :: rest))) : W p l e R s m args below meth c H locs cells slots Q (F0 m pc ls (.int (nI b) :: .int (nI a) :: rest)) := t_imul C.1.1 C.1.2.1 hdg (pk_mul a b) kk
theorem an_div (C : Cc p m c cc nL s args own D cs) (ha : a < 2 ^ 31) (h0 : 0 < b) (hb : b < 2 ^ 31) (hdg : decode cc pc = .ok (.idiv, 1)) (kk : W p l e R s m args below meth c H locs cells slots Q (F0 m (pc + 1) ls (.int (nI (a / b)) :: rest))) : W p l e R s m args below meth c H locs cells slots Q (F0 m pc ls (.int (nI b) :: .int (nI a) :: rest)) := lv_idiv C.1.1 C.1.2.1 hdg (nI_ne0 h0 hb) (by rw [pk_div ha h0 hb]; exact kk)
theorem an_rem (C : Cc p m c cc nL s args own D cs) (ha : a < 2 ^ 31) (h0 : 0 < b) (hb : b < 2 ^ 31) (hdg : decode cc pc = .ok (.irem, 1)) (kk : W p l e R s m args below meth c H locs cells slots Q (F0 m (pc + 1) ls (.int (nI (a % b)) :: rest))) : W p l e R s m args below meth c H locs cells slots Q (F0 m pc ls (.int (nI b) :: .int (nI a) :: rest)) := lv_irem C.1.1 C.1.2.1 hdg (nI_ne0 h0 hb) (by rw [pk_rem ha h0 hb]; exact kk)
theorem bn_lt (C : Cc p m c cc nL s args own D cs) (ha : a < 2 ^ 31) (hb : b < 2 ^ 31) (hdg : decode cc pc = .ok (.if_icmp .lt off, 3)) (ht : (pc : Int) + off = (tgt : Int)) (kt : a < b → W p l e R s m args below meth c H locs cells slots Q (F0 m tgt ls rest)) (kf : b ≤ a → W p l e R s m args below meth c H locs cells slots Q (F0 m (pc + 3) ls rest)) : W p l e R s m args below meth c H locs cells slots Q (F0 m pc ls (.int (nI b) :: .int (nI a) :: rest)) :=
  lv_icmp_lt C.1.1 C.1.2.1 hdg ht (fun h => kt ((nI_ltI ha hb).mp h)) (fun h => kf (Nat.not_lt.mp fun q => h ((nI_ltI ha hb).mpr q)))
theorem bn_ge (C : Cc p m c cc nL s args own D cs) (ha : a < 2 ^ 31) (hb : b < 2 ^ 31) (hdg : decode cc pc = .ok (.if_icmp .ge off, 3)) (ht : (pc : Int) + off = (tgt : Int)) (kt : b ≤ a → W p l e R s m args below meth c H locs cells slots Q (F0 m tgt ls rest)) (kf : a < b → W p l e R s m args below meth c H locs cells slots Q (F0 m (pc + 3) ls rest)) : W p l e R s m args below meth c H locs cells slots Q (F0 m pc ls (.int (nI b) :: .int (nI a) :: rest)) :=
  lv_icmp_ge C.1.1 C.1.2.1 hdg ht (fun h => kt ((nI_leI hb ha).mp h)) (fun h => kf (Nat.not_le.mp fun q => h ((nI_leI hb ha).mpr q)))
theorem bn_gt (C : Cc p m c cc nL s args own D cs) (ha : a < 2 ^ 31) (hb : b < 2 ^ 31) (hdg : decode cc pc = .ok (.if_icmp .gt off, 3)) (ht : (pc : Int) + off = (tgt : Int)) (kt : b < a → W p l e R s m args below meth c H locs cells slots Q (F0 m tgt ls rest)) (kf : a ≤ b → W p l e R s m args below meth c H locs cells slots Q (F0 m (pc + 3) ls rest)) : W p l e R s m args below meth c H locs cells slots Q (F0 m pc ls (.int (nI b) :: .int (nI a) :: rest)) :=
  lv_icmp_gt C.1.1 C.1.2.1 hdg ht (fun h => kt ((nI_ltI hb ha).mp h)) (fun h => kf (Nat.not_lt.mp fun q => h ((nI_ltI hb ha).mpr q)))
theorem bn_le (C : Cc p m c cc nL s args own D cs) (ha : a < 2 ^ 31) (hb : b < 2 ^ 31) (hdg : decode cc pc = .ok (.if_icmp .le off, 3)) (ht : (pc : Int) + off = (tgt : Int)) (kt : a ≤ b → W p l e R s m args below meth c H locs cells slots Q (F0 m tgt ls rest)) (kf : b < a → W p l e R s m args below meth c H locs cells slots Q (F0 m (pc + 3) ls rest)) : W p l e R s m args below meth c H locs cells slots Q (F0 m pc ls (.int (nI b) :: .int (nI a) :: rest)) :=
  lv_icmp_le C.1.1 C.1.2.1 hdg ht (fun h => kt ((nI_leI ha hb).mp h)) (fun h => kf (Nat.not_le.mp fun q => h ((nI_leI ha hb).mpr q)))
theorem bn_eq (C : Cc p m c cc nL s args own D cs) (ha : a < 2 ^ 31) (hb : b < 2 ^ 31) (hdg : decode cc pc = .ok (.if_icmp .eq off, 3)) (ht : (pc : Int) + off = (tgt : Int)) (kt : a = b → W p l e R s m args below meth c H locs cells slots Q (F0 m tgt ls rest)) (kf : a ≠ b → W p l e R s m args below meth c H locs cells slots Q (F0 m (pc + 3) ls rest)) : W p l e R s m args below meth c H locs cells slots Q (F0 m pc ls (.int (nI b) :: .int (nI a) :: rest)) :=
  lv_icmp_eq C.1.1 C.1.2.1 hdg ht (fun h => kt ((nI_eq ha hb).mp h)) (fun h => kf (fun q => h ((nI_eq ha hb).mpr q)))
theorem bn_ne (C : Cc p m c cc nL s args own D cs) (ha : a < 2 ^ 31) (hb : b < 2 ^ 31) (hdg : decode cc pc = .ok (.if_icmp .ne off, 3)) (ht : (pc : Int) + off = (tgt : Int)) (kt : a ≠ b → W p l e R s m args below meth c H locs cells slots Q (F0 m tgt ls rest)) (kf : a = b → W p l e R s m args below meth c H locs cells slots Q (F0 m (pc + 3) ls rest)) : W p l e R s m args below meth c H locs cells slots Q (F0 m pc ls (.int (nI b) :: .int (nI a) :: rest)) :=
  lv_icmp_ne C.1.1 C.1.2.1 hdg ht (fun h => kt (fun q => h ((nI_eq ha hb).mpr q))) (fun h => kf (by first | exact (nI_eq ha hb).mp h | exact Classical.byContradiction fun q => h fun z => q ((nI_eq ha hb).mp z)))
theorem bz_le (C : Cc p m c cc nL s args own D cs) (ha : a < 2 ^ 31) (hdg : decode cc pc = .ok (.ifCond .le off, 3)) (ht : (pc : Int) + off = (tgt : Int)) (kt : a = 0 → W p l e R s m args below meth c H locs cells slots Q (F0 m tgt ls rest)) (kf : 0 < a → W p l e R s m args below meth c H locs cells slots Q (F0 m (pc + 3) ls rest)) : W p l e R s m args below meth c H locs cells slots Q (F0 m pc ls (.int (nI a) :: rest)) :=
  lv_if_le C.1.1 C.1.2.1 hdg ht (fun h => kt (by rcases Nat.eq_zero_or_pos a with q | q; exact q; exact absurd h (nI_nle q ha))) (fun h => kf (by rcases Nat.eq_zero_or_pos a with q | q; (subst q; exact absurd (by decide) h); exact q))
theorem bz_eq (C : Cc p m c cc nL s args own D cs) (ha : a < 2 ^ 31) (hdg : decode cc pc = .ok (.ifCond .eq off, 3)) (ht : (pc : Int) + off = (tgt : Int)) (kt : a = 0 → W p l e R s m args below meth c H locs cells slots Q (F0 m tgt ls rest)) (kf : 0 < a → W p l e R s m args below meth c H locs cells slots Q (F0 m (pc + 3) ls rest)) : W p l e R s m args below meth c H locs cells slots Q (F0 m pc ls (.int (nI a) :: rest)) :=
  lv_if_eq C.1.1 C.1.2.1 hdg ht (fun h => kt (by rcases Nat.eq_zero_or_pos a with q | q; exact q; exact absurd h (nI_ne0 q ha))) (fun h => kf (by rcases Nat.eq_zero_or_pos a with q | q; (subst q; exact absurd nI_0 h); exact q))
theorem bz_ne (C : Cc p m c cc nL s args own D cs) (ha : a < 2 ^ 31) (hdg : decode cc pc = .ok (.ifCond .ne off, 3)) (ht : (pc : Int) + off = (tgt : Int)) (kt : 0 < a → W p l e R s m args below meth c H locs cells slots Q (F0 m tgt ls rest)) (kf : a = 0 → W p l e R s m args below meth c H locs cells slots Q (F0 m (pc + 3) ls rest)) : W p l e R s m args below meth c H locs cells slots Q (F0 m pc ls (.int (nI a) :: rest)) :=
  lv_if_ne C.1.1 C.1.2.1 hdg ht (fun h => kt (by rcases Nat.eq_zero_or_pos a with q | q; (subst q; exact absurd nI_0 h); exact q)) (fun h => kf (by rcases Nat.eq_zero_or_pos a with q | q; exact q; exact absurd (nI_ne0 q ha) (by first | exact not_not_intro h | exact h)))
theorem bz_gt (C : Cc p m c cc nL s args own D cs) (ha : a < 2 ^ 31) (hdg : decode cc pc = .ok (.ifCond .gt off, 3)) (ht : (pc : Int) + off = (tgt : Int)) (kt : 0 < a → W p l e R s m args below meth c H locs cells slots Q (F0 m tgt ls rest)) (kf : a = 0 → W p l e R s m args below meth c H locs cells slots Q (F0 m (pc + 3) ls rest)) : W p l e R s m args below meth c H locs cells slots Q (F0 m pc ls (.int (nI a) :: rest)) :=
  lv_if_gt C.1.1 C.1.2.1 hdg ht (fun h => kt (by rcases Nat.eq_zero_or_pos a with q | q; (subst q; exact absurd h (by decide)); exact q)) (fun h => kf (by rcases Nat.eq_zero_or_pos a with q | q; exact q; exact absurd (by rw [← nI_0]; exact nI_lt q ha) h))
/-- a boolean on the stack -/
theorem bb_eq {x : Bool} (C : Cc p m c cc nL s args own D cs) (hdg : decode cc pc = .ok (.ifCond .eq off, 3)) (ht : (pc : Int) + off = (tgt : Int)) (kt : x = false → W p l e R s m args below meth c H locs cells slots Q (F0 m tgt ls rest)) (kf : x = true → W p l e R s m args below meth c H locs cells slots Q (F0 m (pc + 3) ls rest)) : W p l e R s m args below meth c H locs cells slots Q (F0 m pc ls (.int (bI x) :: rest)) :=
  lv_if_eq C.1.1 C.1.2.1 hdg ht (fun h => kt (by cases x; rfl; exact absurd h (by decide))) (fun h => kf (by cases x; exact absurd (by decide) h; rfl))
theorem bb_ne {x : Bool} (C : Cc p m c cc nL s args own D cs) (hdg : decode cc pc = .ok (.ifCond .ne off, 3)) (ht : (pc : Int) + off = (tgt : Int)) (kt : x = true → W p l e R s m args below meth c H locs cells slots Q (F0 m tgt ls rest)) (kf : x = false → W p l e R s m args below meth c H locs cells slots Q (F0 m (pc + 3) ls rest)) : W p l e R s m args below meth c H locs cells slots Q (F0 m pc ls (.int (bI x) :: rest)) :=
  lv_if_ne C.1.1 C.1.2.1 hdg ht (fun h => kt (by cases x; exact absurd (by decide) h; rfl)) (fun h => kf (by cases x; rfl; first | exact absurd (by decide) h | exact absurd h (by decide)))
/-- an optional number against -1 -/
theorem bo_eq {o : Option Nat} (C : Cc p m c cc nL s args own D cs) (ho : ∀ j, o = some j → j < 2 ^ 31) (hdg : decode cc pc = .ok (.if_icmp .eq off, 3)) (ht : (pc : Int) + off = (tgt : Int)) (kt : o = none → W p l e R s m args below meth c H locs cells slots Q (F0 m tgt ls rest)) (kf : ∀ j, o = some j → W p l e R s m args below meth c H locs cells slots Q (F0 m (pc + 3) ls rest)) : W p l e R s m args below meth c H locs cells slots Q (F0 m pc ls (.int (-1) :: .int (oI o) :: rest)) :=
  lv_icmp_eq C.1.1 C.1.2.1 hdg ht (fun h => kt (by cases o with | none => rfl | some j => exact absurd h (nI_nem1 (ho j rfl)))) (fun h => by cases o with | none => exact absurd rfl h | some j => exact kf j rfl)
theorem bo_ne {o : Option Nat} (C : Cc p m c cc nL s args own D cs) (ho : ∀ j, o = some j → j < 2 ^ 31) (hdg : decode cc pc = .ok (.if_icmp .ne off, 3)) (ht : (pc : Int) + off = (tgt : Int)) (kt : ∀ j, o = some j → W p l e R s m args below meth c H locs cells slots Q (F0 m tgt ls rest)) (kf : o = none → W p l e R s m args below meth c H locs cells slots Q (F0 m (pc + 3) ls rest)) : W p l e R s m args below meth c H locs cells slots Q (F0 m pc ls (.int (-1) :: .int (oI o) :: rest)) :=
  lv_icmp_ne C.1.1 C.1.2.1 hdg ht (fun h => by cases o with | none => exact absurd rfl h | some j => exact kt j rfl) (fun h => kf (by cases o with | none => rfl | some j => exact absurd (by first | exact h | exact Classical.byContradiction fun q => h q) (nI_nem1 (ho j rfl))))
end NX
end
section
/-! THE TWIN's cells: its object at ad 0, its arrays at ad 1 .. ad 8 (sectorOf valueOf serialOf sortOf erased entrySector entryValue entrySort) -/
abbrev SM : Type := (Nat → Int32) × (Nat → Nat → Int32)
def lenM (k : Nat) : Nat := if k < 4 then 48 else if k = 4 then 12 else 3
abbrev mainM (ad : Nat → Nat) (S : SM) : List Value := [.int (S.1 0), .int (S.1 1), .ref (ad 1), .ref (ad 2), .ref (ad 3), .ref (ad 4), .ref (ad 5), .int (S.1 7), .int (S.1 8), .int (S.1 9), .int (S.1 10), .int (S.1 11), .int (S.1 12), .ref (ad 6), .ref (ad 7), .ref (ad 8)]
def eM (ad : Nat → Nat) (cs : Nat → ClassId) (S : SM) (j : Nat) : va_E := match j with
  | 0 => .inr (5, mainM ad S)
  | k + 1 => .inl (cs 1, lenM k, .inl (S.2 k))
theorem lenM_lt (k : Nat) : lenM k < 2 ^ 31 := by unfold lenM; split; omega; split <;> omega
section MX
variable {p : Program} {l : Launch} {e : Env} {R : Room} {s : State} {m : MethodId} {args : Array Value} {below : List Frame} {meth : Method} {c : Code} {H : Heap} {locs : List Loc} {cells slots : Nat} {Q : State → Prop}
variable {cc : ByteArray} {nL pc : Nat} {ls : Array Slot} {rest : List Value} {D : va_G} {cs : Nat → ClassId} {ad : Nat → Nat} {S : SM} {index : Nat}
theorem m_geti (C : Cc p m c cc nL s args R_M D cs) (hI : In D ad 9 s (eM ad cs S) H locs) (k : Nat) (hk : k < 16) (hlink : Cond.fieldLink R_M index "WornFlashModel" (F_M k).2.1 (F_M k).2.2.1 ∈ tbG) (hr : (F_M k).1 = "WornFlashModel") (hw : (mainM ad S)[k]? = some (.int (S.1 k))) {v : Int32} (hv : S.1 k = v) (hdg : decode cc pc = .ok (.getfield index, 3))
    (kk : W p l e R s m args below meth c H locs cells slots Q (F0 m (pc + 3) ls (.int v :: rest))) : W p l e R s m args below meth c H locs cells slots Q (F0 m pc ls (.ref (ad 0) :: rest)) := by
  subst hv
  exact x_gf C hI (Cn := R_M) (T := F_M) (N := 16) i_M 0 (by omega) (ci := 5) rfl rfl k hk hlink hr hw hdg kk
theorem m_getr (C : Cc p m c cc nL s args R_M D cs) (hI : In D ad 9 s (eM ad cs S) H locs) (k : Nat) (hk : k < 16) (hlink : Cond.fieldLink R_M index "WornFlashModel" (F_M k).2.1 (F_M k).2.2.1 ∈ tbG) (hr : (F_M k).1 = "WornFlashModel") (j : Nat) (hw : (mainM ad S)[k]? = some (.ref (ad j))) (hdg : decode cc pc = .ok (.getfield index, 3))
    (kk : W p l e R s m args below meth c H locs cells slots Q (F0 m (pc + 3) ls (.ref (ad j) :: rest))) : W p l e R s m args below meth c H locs cells slots Q (F0 m pc ls (.ref (ad 0) :: rest)) :=
  x_gf C hI (Cn := R_M) (T := F_M) (N := 16) i_M 0 (by omega) (ci := 5) rfl rfl k hk hlink hr hw hdg kk
theorem m_set0 {k : Nat} {v : Int32} (hk : k = 7 ∨ k = 8 ∨ k = 9 ∨ k = 10 ∨ k = 11 ∨ k = 12) : ∀ j, j < 9 → va_up (eM ad cs S) 0 (.inr (5, (mainM ad S).set k (.int v))) j = eM ad cs (va_up S.1 k v, S.2) j := by
  intro j hj
  cases j with
  | zero => rcases hk with rfl | rfl | rfl | rfl | rfl | rfl <;> simp [va_up, eM]
  | succ j => simp [va_up, eM]
theorem m_puti (C : Cc p m c cc nL s args R_M D cs) (hI : In D ad 9 s (eM ad cs S) H locs) (k : Nat) (hk : k = 7 ∨ k = 8 ∨ k = 9 ∨ k = 10 ∨ k = 11 ∨ k = 12) (hlink : Cond.fieldLink R_M index "WornFlashModel" (F_M k).2.1 (F_M k).2.2.1 ∈ tbG) (hr : (F_M k).1 = "WornFlashModel") (hfin : (F_M k).2.2.2 = false) {v : Int32} (hn : narrow (t_M k) (.int v) = .int v) (hfit : fits (t_M k) (.int v) = true) (hdg : decode cc pc = .ok (.putfield index, 3))
    (kk : ∀ (H1 : Heap) (locs1 : List Loc) (MI : Nat → Int32), MI = va_up S.1 k v → In D ad 9 s (eM ad cs (MI, S.2)) H1 locs1 → W p l e R s m args below meth c H1 locs1 cells slots Q (F0 m (pc + 3) ls rest)) : W p l e R s m args below meth c H locs cells slots Q (F0 m pc ls (.int v :: .ref (ad 0) :: rest)) :=
  x_pf C hI (Cn := R_M) (T := F_M) (N := 16) i_M t_M t_M_ok n_M 0 (by omega) (ci := 5) rfl rfl k (by omega) hlink hr hfin hn hfit (by show k < 16; omega) hdg (fun H1 locs1 hI1 => kk H1 locs1 _ rfl (hI1.congr (m_set0 hk)))
theorem m_ald (C : Cc p m c cc nL s args R_M D cs) (hI : In D ad 9 s (eM ad cs S) H locs) (k : Nat) (hk : k < 8) {i : Nat} (hi : i < lenM k) {v : Int32} (hv : S.2 k i = v) (hdg : decode cc pc = .ok (.iaload, 1))
    (kk : W p l e R s m args below meth c H locs cells slots Q (F0 m (pc + 1) ls (.int v :: rest))) : W p l e R s m args below meth c H locs cells slots Q (F0 m pc ls (.int (nI i) :: .ref (ad (k + 1)) :: rest)) :=
  x_iald C hI (k + 1) (by omega) rfl hi (lenM_lt k) hv hdg kk
theorem m_ast (C : Cc p m c cc nL s args R_M D cs) (hI : In D ad 9 s (eM ad cs S) H locs) (k : Nat) (hk : k < 8) {i : Nat} (hi : i < lenM k) {v : Int32} (hdg : decode cc pc = .ok (.iastore, 1))
    (kk : ∀ (H1 : Heap) (locs1 : List Loc) (MA : Nat → Nat → Int32), MA = va_up S.2 k (va_up (S.2 k) i v) → In D ad 9 s (eM ad cs (S.1, MA)) H1 locs1 → W p l e R s m args below meth c H1 locs1 cells slots Q (F0 m (pc + 1) ls rest)) : W p l e R s m args below meth c H locs cells slots Q (F0 m pc ls (.int v :: .int (nI i) :: .ref (ad (k + 1)) :: rest)) :=
  x_iast C hI (k + 1) (by omega) rfl hi (lenM_lt k) hdg (fun H1 locs1 hI1 => kk H1 locs1 _ rfl (hI1.congr (fun j hj => by
    cases j with
    | zero => simp [va_up, eM]
    | succ j =>
      by_cases h : j = k
      · subst h; simp [va_up, eM]
      · simp [va_up, eM, h])))
end MX
end
section
/-! THE FLASH, as a value: per block used pages and erasures, per page sector, value, serial, trim; next serial, open block, operations, fuse, buffer -/
abbrev Fl : Type := (Nat → Nat) × (Nat → Nat) × (Nat → Nat) × (Nat → Int32) × (Nat → Nat) × (Nat → Bool) × Nat × Option Nat × Nat × Nat × List (Nat × Int32 × Bool)
def fUs (F : Fl) : Nat → Nat := F.1
def fEr (F : Fl) : Nat → Nat := F.2.1
def fSc (F : Fl) : Nat → Nat := F.2.2.1
def fVl (F : Fl) : Nat → Int32 := F.2.2.2.1
def fSr (F : Fl) : Nat → Nat := F.2.2.2.2.1
def fTr (F : Fl) : Nat → Bool := F.2.2.2.2.2.1
def fNx (F : Fl) : Nat := F.2.2.2.2.2.2.1
def fOp (F : Fl) : Option Nat := F.2.2.2.2.2.2.2.1
def fOs (F : Fl) : Nat := F.2.2.2.2.2.2.2.2.1
def fFu (F : Fl) : Nat := F.2.2.2.2.2.2.2.2.2.1
def fBf (F : Fl) : List (Nat × Int32 × Bool) := F.2.2.2.2.2.2.2.2.2.2
abbrev mkF (us er sc : Nat → Nat) (vl : Nat → Int32) (sr : Nat → Nat) (tr : Nat → Bool) (nx : Nat) (op : Option Nat) (os fu : Nat) (bf : List (Nat × Int32 × Bool)) : Fl := (us, er, sc, vl, sr, tr, nx, op, os, fu, bf)
/-- a page is programmed -/
def prg (F : Fl) (p : Nat) : Bool := decide (p % 4 < fUs F (p / 4))
/-- the best of the numbers below n that are ok; the first of equals -/
def bst (ok : Nat → Bool) (lt : Nat → Nat → Bool) : Nat → Option Nat
  | 0 => none
  | k + 1 => match bst ok lt k with
    | none => if ok k then some k else none
    | some j => if ok k && lt k j then some k else some j
def cnt (f : Nat → Bool) : Nat → Nat
  | 0 => 0
  | k + 1 => cnt f k + (if f k then 1 else 0)
def nwOk (F : Fl) (s : Nat) (p : Nat) : Bool := prg F p && (fSc F p == s)
def nwLt (F : Fl) (k j : Nat) : Bool := decide (fSr F j < fSr F k)
/-- the valid page of a sector -/
def fNew (nb : Nat) (F : Fl) (s : Nat) : Option Nat := bst (nwOk F s) (nwLt F) (4 * nb)
def vld (nb : Nat) (F : Fl) (p : Nat) : Bool := prg F p && (fNew nb F (fSc F p) == some p)
def fVin (nb : Nat) (F : Fl) (b : Nat) : Nat := cnt (fun q => vld nb F (4 * b + q)) 4
def fFree (nb : Nat) (F : Fl) : Nat := cnt (fun b => fUs F b == 0) nb
def fCost (nb : Nat) (F : Fl) (byV : Bool) (b : Nat) : Nat := fEr F b + (if byV then 100000 * fVin nb F b else 0)
def fPick (nb : Nat) (F : Fl) (n : Nat) (byV : Bool) : Option Nat := bst (fun b => fUs F b == n) (fun k j => decide (fCost nb F byV k < fCost nb F byV j)) nb
def mxE (F : Fl) : Nat → Nat
  | 0 => fEr F 0
  | k + 1 => if mxE F k < fEr F (k + 1) then fEr F (k + 1) else mxE F k
def mnE (F : Fl) : Nat → Nat
  | 0 => fEr F 0
  | k + 1 => if fEr F (k + 1) < mnE F k then fEr F (k + 1) else mnE F k
def fWorn (nb sp : Nat) (F : Fl) : Bool := decide (sp < mxE F (nb - 1) - mnE F (nb - 1))
/-- a number in a range -/
def inR (N : Nat) (x : Int32) : Option Nat := if 0 ≤ x.toInt ∧ x.toInt < N then some x.toInt.toNat else none
theorem inR_some {N : Nat} {x : Int32} {j : Nat} (hN : N < 2 ^ 31) (h : inR N x = some j) : x = nI j ∧ j < N := by
  unfold inR at h
  split at h
  · rename_i hh
    have hj : x.toInt.toNat = j := Option.some.inj h
    have hl : j < N := by omega
    refine ⟨Int32.toInt_inj.mp ?_, hl⟩
    rw [nI_toInt (by omega)]
    omega
  · cases h
theorem inR_of {N : Nat} {j : Nat} (hN : N < 2 ^ 31) (h : j < N) : inR N (nI j) = some j := by
  unfold inR
  rw [nI_toInt (by omega), if_pos (by omega)]
  simp
theorem inR_neg {N : Nat} {x : Int32} (h : x < 0) : inR N x = none := by
  unfold inR
  have : x.toInt < 0 := by
    have := Int32.lt_iff_toInt_lt.mp h
    simpa using this
  rw [if_neg (by omega)]
theorem inR_big {N : Nat} {x : Int32} (hN : N < 2 ^ 31) (h : nI N ≤ x) : inR N x = none := by
  unfold inR
  have : (nI N).toInt ≤ x.toInt := Int32.le_iff_toInt_le.mp h
  rw [nI_toInt hN] at this
  rw [if_neg (by omega)]
theorem inR_ok {N : Nat} {x : Int32} (hN : N < 2 ^ 31) (h0 : ¬ x < 0) (h : ¬ nI N ≤ x) : ∃ j, j < N ∧ x = nI j ∧ inR N x = some j := by
  rcases pk_ix x hN with q | q | ⟨j, hj, rfl⟩
  · exact absurd q h0
  · exact absurd q h
  · exact ⟨j, hj, rfl, inR_of hN hj⟩
/-- VALUE or TRIMMED -/
def sI (t : Bool) : Int32 := if t then 2 else 1
/-- the pages' serials differ -/
def WD (nb : Nat) (F : Fl) : Prop := ∀ p q, p < 4 * nb → q < 4 * nb → prg F p = true → prg F q = true → fSr F p = fSr F q → p = q
/-- what the walks need of a flash: its numbers are small -/
def WB (nb sp : Nat) (F : Fl) : Prop := (5 ≤ nb ∧ nb ≤ 12) ∧ (1 ≤ sp ∧ sp ≤ 50) ∧ (∀ b, b < nb → fUs F b ≤ 4) ∧ (∀ p, p < 4 * nb → prg F p = true → fSc F p < 4 * (nb - 3)) ∧ (∀ p, p < 4 * nb → prg F p = true → fSr F p < fNx F) ∧ fNx F ≤ 90000 ∧ (∀ b, b < nb → fEr F b ≤ 90000) ∧ (∀ b, fOp F = some b → b < nb) ∧ (fBf F).length ≤ 3 ∧ fFu F ≤ 1000 ∧ (∀ (k : Nat) (e : Nat × Int32 × Bool), (fBf F)[k]? = some e → e.1 < 4 * (nb - 3)) ∧ WD nb F
theorem WB.nb {nb sp : Nat} {F : Fl} (h : WB nb sp F) : 5 ≤ nb ∧ nb ≤ 12 := h.1
theorem WB.sp {nb sp : Nat} {F : Fl} (h : WB nb sp F) : 1 ≤ sp ∧ sp ≤ 50 := h.2.1
theorem WB.us {nb sp : Nat} {F : Fl} (h : WB nb sp F) : ∀ b, b < nb → fUs F b ≤ 4 := h.2.2.1
theorem WB.sc {nb sp : Nat} {F : Fl} (h : WB nb sp F) : ∀ p, p < 4 * nb → prg F p = true → fSc F p < 4 * (nb - 3) := h.2.2.2.1
theorem WB.sr {nb sp : Nat} {F : Fl} (h : WB nb sp F) : ∀ p, p < 4 * nb → prg F p = true → fSr F p < fNx F := h.2.2.2.2.1
theorem WB.nx {nb sp : Nat} {F : Fl} (h : WB nb sp F) : fNx F ≤ 90000 := h.2.2.2.2.2.1
theorem WB.er {nb sp : Nat} {F : Fl} (h : WB nb sp F) : ∀ b, b < nb → fEr F b ≤ 90000 := h.2.2.2.2.2.2.1
theorem WB.op {nb sp : Nat} {F : Fl} (h : WB nb sp F) : ∀ b, fOp F = some b → b < nb := h.2.2.2.2.2.2.2.1
theorem WB.bl {nb sp : Nat} {F : Fl} (h : WB nb sp F) : (fBf F).length ≤ 3 := h.2.2.2.2.2.2.2.2.1
theorem WB.fu {nb sp : Nat} {F : Fl} (h : WB nb sp F) : fFu F ≤ 1000 := h.2.2.2.2.2.2.2.2.2.1
theorem WB.bs {nb sp : Nat} {F : Fl} (h : WB nb sp F) : ∀ (k : Nat) (e : Nat × Int32 × Bool), (fBf F)[k]? = some e → e.1 < 4 * (nb - 3) := h.2.2.2.2.2.2.2.2.2.2.1
theorem WB.wd {nb sp : Nat} {F : Fl} (h : WB nb sp F) : WD nb F := h.2.2.2.2.2.2.2.2.2.2.2
theorem bst_lt {ok : Nat → Bool} {lt : Nat → Nat → Bool} : ∀ {n j : Nat}, bst ok lt n = some j → j < n ∧ ok j = true
  | 0, j, h => by simp [bst] at h
  | k + 1, j, h => by
    unfold bst at h
    split at h
    · split at h
      · rename_i hk; cases h; exact ⟨by omega, hk⟩
      · cases h
    · rename_i i hi
      split at h
      · rename_i hk
        cases h
        exact ⟨by omega, by simp at hk; exact hk.1⟩
      · cases h
        have := bst_lt hi
        exact ⟨by omega, this.2⟩
theorem cnt_le (f : Nat → Bool) : ∀ k, cnt f k ≤ k
  | 0 => by simp [cnt]
  | k + 1 => by
    have := cnt_le f k
    unfold cnt
    split <;> omega
/-- the twin holds the flash -/
def RM (nb sp : Nat) (F : Fl) (S : SM) : Prop :=
  S.1 0 = nI nb ∧ S.1 1 = nI sp ∧ S.1 7 = nI (fNx F) ∧ S.1 8 = oI (fOp F) ∧ S.1 9 = nI (fOs F) ∧ S.1 10 = nI (fFu F) ∧ S.1 12 = nI (fBf F).length ∧
  (∀ p, p < 4 * nb → S.2 0 p = if prg F p then nI (fSc F p) else -1) ∧ (∀ p, p < 4 * nb → prg F p = true → S.2 1 p = fVl F p ∧ S.2 2 p = nI (fSr F p) ∧ S.2 3 p = sI (fTr F p)) ∧
  (∀ b, b < nb → S.2 4 b = nI (fEr F b)) ∧ (∀ (k : Nat) (e : Nat × Int32 × Bool), (fBf F)[k]? = some e → S.2 5 k = nI e.1 ∧ S.2 6 k = e.2.1 ∧ S.2 7 k = sI e.2.2)
theorem RM.nb {nb sp : Nat} {F : Fl} {S : SM} (h : RM nb sp F S) : S.1 0 = nI nb := h.1
theorem RM.sp {nb sp : Nat} {F : Fl} {S : SM} (h : RM nb sp F S) : S.1 1 = nI sp := h.2.1
theorem RM.nx {nb sp : Nat} {F : Fl} {S : SM} (h : RM nb sp F S) : S.1 7 = nI (fNx F) := h.2.2.1
theorem RM.op {nb sp : Nat} {F : Fl} {S : SM} (h : RM nb sp F S) : S.1 8 = oI (fOp F) := h.2.2.2.1
theorem RM.os {nb sp : Nat} {F : Fl} {S : SM} (h : RM nb sp F S) : S.1 9 = nI (fOs F) := h.2.2.2.2.1
theorem RM.fu {nb sp : Nat} {F : Fl} {S : SM} (h : RM nb sp F S) : S.1 10 = nI (fFu F) := h.2.2.2.2.2.1
theorem RM.bl {nb sp : Nat} {F : Fl} {S : SM} (h : RM nb sp F S) : S.1 12 = nI (fBf F).length := h.2.2.2.2.2.2.1
theorem RM.sc {nb sp : Nat} {F : Fl} {S : SM} (h : RM nb sp F S) : ∀ p, p < 4 * nb → S.2 0 p = if prg F p then nI (fSc F p) else -1 := h.2.2.2.2.2.2.2.1
theorem RM.pg {nb sp : Nat} {F : Fl} {S : SM} (h : RM nb sp F S) : ∀ p, p < 4 * nb → prg F p = true → S.2 1 p = fVl F p ∧ S.2 2 p = nI (fSr F p) ∧ S.2 3 p = sI (fTr F p) := h.2.2.2.2.2.2.2.2.1
theorem RM.er {nb sp : Nat} {F : Fl} {S : SM} (h : RM nb sp F S) : ∀ b, b < nb → S.2 4 b = nI (fEr F b) := h.2.2.2.2.2.2.2.2.2.1
theorem RM.bf {nb sp : Nat} {F : Fl} {S : SM} (h : RM nb sp F S) : ∀ (k : Nat) (e : Nat × Int32 × Bool), (fBf F)[k]? = some e → S.2 5 k = nI e.1 ∧ S.2 6 k = e.2.1 ∧ S.2 7 k = sI e.2.2 := h.2.2.2.2.2.2.2.2.2.2
end
section
/-! what the tables say of each method that is called -/
theorem yc_W_init : Yc y_W_init b_W_init 5 none 2 := ⟨k_cd_W_init, k_ini_W, by decide +kernel, by decide +kernel, by decide +kernel⟩
theorem yc_E_init : Yc y_E_init b_E_init 1 none 0 := ⟨k_cd_E_init, k_ini_E, by decide +kernel, by decide +kernel, by decide +kernel⟩
theorem yc_G_init : Yc y_G_init b_G_init 1 none 0 := ⟨k_cd_G_init, k_ini_G, by decide +kernel, by decide +kernel, by decide +kernel⟩
theorem yc_J_recInit : Yc y_J_recInit b_J_recInit 1 none 0 := ⟨k_cd_J_recInit, k_ini_Rec, by decide +kernel, by decide +kernel, by decide +kernel⟩
theorem yc_V_init : Yc y_V_init b_V_init 1 none 0 := ⟨k_cd_V_init, k_ini_V, by decide +kernel, by decide +kernel, by decide +kernel⟩
theorem yc_B_init : Yc y_B_init b_B_init 2 none 1 := ⟨k_cd_B_init, k_ini_B, by decide +kernel, by decide +kernel, by decide +kernel⟩
theorem yc_W_cut : Yc y_W_cut b_W_cut 1 none 0 := ⟨k_cd_W_cut, k_ini_W, by decide +kernel, by decide +kernel, by decide +kernel⟩
theorem yv_W_cut : Yv y_W_cut b_W_cut 1 none 0 := ⟨yc_W_cut, k_im_W_cut, k_se_W_cut⟩
theorem yc_W_lost : Yc y_W_lost b_W_lost 2 (some .int) 0 := ⟨k_cd_W_lost, k_ini_W, by decide +kernel, by decide +kernel, by decide +kernel⟩
theorem yv_W_lost : Yv y_W_lost b_W_lost 2 (some .int) 0 := ⟨yc_W_lost, k_im_W_lost, k_se_W_lost⟩
theorem yc_W_rebuild : Yc y_W_rebuild b_W_rebuild 7 none 0 := ⟨k_cd_W_rebuild, k_ini_W, by decide +kernel, by decide +kernel, by decide +kernel⟩
theorem yv_W_rebuild : Yv y_W_rebuild b_W_rebuild 7 none 0 := ⟨yc_W_rebuild, k_im_W_rebuild, k_se_W_rebuild⟩
theorem yc_W_push : Yc y_W_push b_W_push 3 none 1 := ⟨k_cd_W_push, k_ini_W, by decide +kernel, by decide +kernel, by decide +kernel⟩
theorem yv_W_push : Yv y_W_push b_W_push 3 none 1 := ⟨yc_W_push, k_im_W_push, k_se_W_push⟩
theorem yc_B_cmp : Yc y_B_cmp b_B_cmp 2 (some .int) 1 := ⟨k_cd_B_cmp, k_ini_B, by decide +kernel, by decide +kernel, by decide +kernel⟩
theorem yv_B_cmp : Yv y_B_cmp b_B_cmp 2 (some .int) 1 := ⟨yc_B_cmp, k_im_B_cmp, k_se_B_cmp⟩
theorem yc_J_compare : Yc y_J_compare b_J_compare 2 (some .int) 2 := ⟨k_cd_J_compare, k_ini_Int, by decide +kernel, by decide +kernel, by decide +kernel⟩
theorem yc_B_isFull : Yc y_B_isFull b_B_isFull 1 (some .boolean) 0 := ⟨k_cd_B_isFull, k_ini_B, by decide +kernel, by decide +kernel, by decide +kernel⟩
theorem yv_B_isFull : Yv y_B_isFull b_B_isFull 1 (some .boolean) 0 := ⟨yc_B_isFull, k_im_B_isFull, k_se_B_isFull⟩
theorem yc_J_max : Yc y_J_max b_J_max 2 (some .int) 2 := ⟨k_cd_J_max, k_ini_Math, by decide +kernel, by decide +kernel, by decide +kernel⟩
theorem yc_W_serialAt : Yc y_W_serialAt b_W_serialAt 2 (some .int) 1 := ⟨k_cd_W_serialAt, k_ini_W, by decide +kernel, by decide +kernel, by decide +kernel⟩
theorem yv_W_serialAt : Yv y_W_serialAt b_W_serialAt 2 (some .int) 1 := ⟨yc_W_serialAt, k_im_W_serialAt, k_se_W_serialAt⟩
theorem yc_B_place : Yc y_B_place b_B_place 2 (some .int) 1 := ⟨k_cd_B_place, k_ini_B, by decide +kernel, by decide +kernel, by decide +kernel⟩
theorem yv_B_place : Yv y_B_place b_B_place 2 (some .int) 1 := ⟨yc_B_place, k_im_B_place, k_se_B_place⟩
theorem yc_W_collect : Yc y_W_collect b_W_collect 7 (some .boolean) 1 := ⟨k_cd_W_collect, k_ini_W, by decide +kernel, by decide +kernel, by decide +kernel⟩
theorem yv_W_collect : Yv y_W_collect b_W_collect 7 (some .boolean) 1 := ⟨yc_W_collect, k_im_W_collect, k_se_W_collect⟩
theorem yc_G_prefers : Yc y_G_prefers b_G_prefers 3 (some .boolean) 2 := ⟨k_cd_G_prefers, k_ini_G, by decide +kernel, by decide +kernel, by decide +kernel⟩
theorem yc_V_prefers : Yc y_V_prefers b_V_prefers 3 (some .boolean) 2 := ⟨k_cd_V_prefers, k_ini_V, by decide +kernel, by decide +kernel, by decide +kernel⟩
theorem yc_W_program : Yc y_W_program b_W_program 5 (some .boolean) 3 := ⟨k_cd_W_program, k_ini_W, by decide +kernel, by decide +kernel, by decide +kernel⟩
theorem yv_W_program : Yv y_W_program b_W_program 5 (some .boolean) 3 := ⟨yc_W_program, k_im_W_program, k_se_W_program⟩
theorem yc_W_operate : Yc y_W_operate b_W_operate 1 (some .boolean) 0 := ⟨k_cd_W_operate, k_ini_W, by decide +kernel, by decide +kernel, by decide +kernel⟩
theorem yv_W_operate : Yv y_W_operate b_W_operate 1 (some .boolean) 0 := ⟨yc_W_operate, k_im_W_operate, k_se_W_operate⟩
theorem yc_W_erase : Yc y_W_erase b_W_erase 2 (some .boolean) 1 := ⟨k_cd_W_erase, k_ini_W, by decide +kernel, by decide +kernel, by decide +kernel⟩
theorem yv_W_erase : Yv y_W_erase b_W_erase 2 (some .boolean) 1 := ⟨yc_W_erase, k_im_W_erase, k_se_W_erase⟩
theorem yc_W_fuse : Yc y_W_fuse b_W_fuse 2 (some .boolean) 1 := ⟨k_cd_W_fuse, k_ini_W, by decide +kernel, by decide +kernel, by decide +kernel⟩
theorem yv_W_fuse : Yv y_W_fuse b_W_fuse 2 (some .boolean) 1 := ⟨yc_W_fuse, k_im_W_fuse, k_se_W_fuse⟩
theorem yc_W_write : Yc y_W_write b_W_write 3 (some .int) 2 := ⟨k_cd_W_write, k_ini_W, by decide +kernel, by decide +kernel, by decide +kernel⟩
theorem yv_W_write : Yv y_W_write b_W_write 3 (some .int) 2 := ⟨yc_W_write, k_im_W_write, k_se_W_write⟩
theorem yc_W_put : Yc y_W_put b_W_put 5 (some .int) 3 := ⟨k_cd_W_put, k_ini_W, by decide +kernel, by decide +kernel, by decide +kernel⟩
theorem yv_W_put : Yv y_W_put b_W_put 5 (some .int) 3 := ⟨yc_W_put, k_im_W_put, k_se_W_put⟩
theorem yc_W_isSector : Yc y_W_isSector b_W_isSector 2 (some .boolean) 1 := ⟨k_cd_W_isSector, k_ini_W, by decide +kernel, by decide +kernel, by decide +kernel⟩
theorem yv_W_isSector : Yv y_W_isSector b_W_isSector 2 (some .boolean) 1 := ⟨yc_W_isSector, k_im_W_isSector, k_se_W_isSector⟩
theorem yc_W_entry : Yc y_W_entry b_W_entry 3 (some (.object "WornFlash$Entry")) 1 := ⟨k_cd_W_entry, k_ini_W, by decide +kernel, by decide +kernel, by decide +kernel⟩
theorem yv_W_entry : Yv y_W_entry b_W_entry 3 (some (.object "WornFlash$Entry")) 1 := ⟨yc_W_entry, k_im_W_entry, k_se_W_entry⟩
theorem yc_W_store : Yc y_W_store b_W_store 3 (some .boolean) 0 := ⟨k_cd_W_store, k_ini_W, by decide +kernel, by decide +kernel, by decide +kernel⟩
theorem yv_W_store : Yv y_W_store b_W_store 3 (some .boolean) 0 := ⟨yc_W_store, k_im_W_store, k_se_W_store⟩
theorem yc_W_provide : Yc y_W_provide b_W_provide 4 (some .boolean) 0 := ⟨k_cd_W_provide, k_ini_W, by decide +kernel, by decide +kernel, by decide +kernel⟩
theorem yv_W_provide : Yv y_W_provide b_W_provide 4 (some .boolean) 0 := ⟨yc_W_provide, k_im_W_provide, k_se_W_provide⟩
theorem yc_W_pop : Yc y_W_pop b_W_pop 5 (some (.object "WornFlash$Block")) 0 := ⟨k_cd_W_pop, k_ini_W, by decide +kernel, by decide +kernel, by decide +kernel⟩
theorem yv_W_pop : Yv y_W_pop b_W_pop 5 (some (.object "WornFlash$Block")) 0 := ⟨yc_W_pop, k_im_W_pop, k_se_W_pop⟩
theorem yc_W_isWorn : Yc y_W_isWorn b_W_isWorn 7 (some .boolean) 0 := ⟨k_cd_W_isWorn, k_ini_W, by decide +kernel, by decide +kernel, by decide +kernel⟩
theorem yv_W_isWorn : Yv y_W_isWorn b_W_isWorn 7 (some .boolean) 0 := ⟨yc_W_isWorn, k_im_W_isWorn, k_se_W_isWorn⟩
theorem yc_E_set : Yc y_E_set b_E_set 4 none 3 := ⟨k_cd_E_set, k_ini_E, by decide +kernel, by decide +kernel, by decide +kernel⟩
theorem yv_E_set : Yv y_E_set b_E_set 4 none 3 := ⟨yc_E_set, k_im_E_set, k_se_E_set⟩
theorem yc_W_trim : Yc y_W_trim b_W_trim 2 (some .int) 1 := ⟨k_cd_W_trim, k_ini_W, by decide +kernel, by decide +kernel, by decide +kernel⟩
theorem yv_W_trim : Yv y_W_trim b_W_trim 2 (some .int) 1 := ⟨yc_W_trim, k_im_W_trim, k_se_W_trim⟩
theorem yc_W_flush : Yc y_W_flush b_W_flush 1 (some .int) 0 := ⟨k_cd_W_flush, k_ini_W, by decide +kernel, by decide +kernel, by decide +kernel⟩
theorem yv_W_flush : Yv y_W_flush b_W_flush 1 (some .int) 0 := ⟨yc_W_flush, k_im_W_flush, k_se_W_flush⟩
theorem yc_W_sectors : Yc y_W_sectors b_W_sectors 1 (some .int) 0 := ⟨k_cd_W_sectors, k_ini_W, by decide +kernel, by decide +kernel, by decide +kernel⟩
theorem yv_W_sectors : Yv y_W_sectors b_W_sectors 1 (some .int) 0 := ⟨yc_W_sectors, k_im_W_sectors, k_se_W_sectors⟩
theorem yc_W_read : Yc y_W_read b_W_read 4 (some .int) 1 := ⟨k_cd_W_read, k_ini_W, by decide +kernel, by decide +kernel, by decide +kernel⟩
theorem yv_W_read : Yv y_W_read b_W_read 4 (some .int) 1 := ⟨yc_W_read, k_im_W_read, k_se_W_read⟩
theorem yc_W_holds : Yc y_W_holds b_W_holds 4 (some .int) 1 := ⟨k_cd_W_holds, k_ini_W, by decide +kernel, by decide +kernel, by decide +kernel⟩
theorem yv_W_holds : Yv y_W_holds b_W_holds 4 (some .int) 1 := ⟨yc_W_holds, k_im_W_holds, k_se_W_holds⟩
theorem yc_W_buffered : Yc y_W_buffered b_W_buffered 1 (some .int) 0 := ⟨k_cd_W_buffered, k_ini_W, by decide +kernel, by decide +kernel, by decide +kernel⟩
theorem yv_W_buffered : Yv y_W_buffered b_W_buffered 1 (some .int) 0 := ⟨yc_W_buffered, k_im_W_buffered, k_se_W_buffered⟩
theorem yc_W_place : Yc y_W_place b_W_place 2 (some .int) 1 := ⟨k_cd_W_place, k_ini_W, by decide +kernel, by decide +kernel, by decide +kernel⟩
theorem yv_W_place : Yv y_W_place b_W_place 2 (some .int) 1 := ⟨yc_W_place, k_im_W_place, k_se_W_place⟩
theorem yc_W_tag : Yc y_W_tag b_W_tag 3 (some .int) 1 := ⟨k_cd_W_tag, k_ini_W, by decide +kernel, by decide +kernel, by decide +kernel⟩
theorem yv_W_tag : Yv y_W_tag b_W_tag 3 (some .int) 1 := ⟨yc_W_tag, k_im_W_tag, k_se_W_tag⟩
theorem yc_W_programmed : Yc y_W_programmed b_W_programmed 3 (some (.object "WornFlash$Block")) 1 := ⟨k_cd_W_programmed, k_ini_W, by decide +kernel, by decide +kernel, by decide +kernel⟩
theorem yv_W_programmed : Yv y_W_programmed b_W_programmed 3 (some (.object "WornFlash$Block")) 1 := ⟨yc_W_programmed, k_im_W_programmed, k_se_W_programmed⟩
theorem yc_W_serial : Yc y_W_serial b_W_serial 3 (some .int) 1 := ⟨k_cd_W_serial, k_ini_W, by decide +kernel, by decide +kernel, by decide +kernel⟩
theorem yv_W_serial : Yv y_W_serial b_W_serial 3 (some .int) 1 := ⟨yc_W_serial, k_im_W_serial, k_se_W_serial⟩
theorem yc_W_valid : Yc y_W_valid b_W_valid 2 (some .int) 1 := ⟨k_cd_W_valid, k_ini_W, by decide +kernel, by decide +kernel, by decide +kernel⟩
theorem yv_W_valid : Yv y_W_valid b_W_valid 2 (some .int) 1 := ⟨yc_W_valid, k_im_W_valid, k_se_W_valid⟩
theorem yc_W_isBlock : Yc y_W_isBlock b_W_isBlock 2 (some .boolean) 1 := ⟨k_cd_W_isBlock, k_ini_W, by decide +kernel, by decide +kernel, by decide +kernel⟩
theorem yv_W_isBlock : Yv y_W_isBlock b_W_isBlock 2 (some .boolean) 1 := ⟨yc_W_isBlock, k_im_W_isBlock, k_se_W_isBlock⟩
theorem yc_W_erasures : Yc y_W_erasures b_W_erasures 2 (some .int) 1 := ⟨k_cd_W_erasures, k_ini_W, by decide +kernel, by decide +kernel, by decide +kernel⟩
theorem yv_W_erasures : Yv y_W_erasures b_W_erasures 2 (some .int) 1 := ⟨yc_W_erasures, k_im_W_erasures, k_se_W_erasures⟩
theorem yc_W_open : Yc y_W_open b_W_open 1 (some .int) 0 := ⟨k_cd_W_open, k_ini_W, by decide +kernel, by decide +kernel, by decide +kernel⟩
theorem yv_W_open : Yv y_W_open b_W_open 1 (some .int) 0 := ⟨yc_W_open, k_im_W_open, k_se_W_open⟩
theorem yc_W_free : Yc y_W_free b_W_free 1 (some .int) 0 := ⟨k_cd_W_free, k_ini_W, by decide +kernel, by decide +kernel, by decide +kernel⟩
theorem yv_W_free : Yv y_W_free b_W_free 1 (some .int) 0 := ⟨yc_W_free, k_im_W_free, k_se_W_free⟩
theorem yc_W_operations : Yc y_W_operations b_W_operations 1 (some .int) 0 := ⟨k_cd_W_operations, k_ini_W, by decide +kernel, by decide +kernel, by decide +kernel⟩
theorem yv_W_operations : Yv y_W_operations b_W_operations 1 (some .int) 0 := ⟨yc_W_operations, k_im_W_operations, k_se_W_operations⟩
theorem yc_L_cell : Yc y_L_cell b_L_cell 2 (some .int) 2 := ⟨k_cd_L_cell, k_ini_law, by decide +kernel, by decide +kernel, by decide +kernel⟩
theorem yc_M_init : Yc y_M_init b_M_init 4 none 2 := ⟨k_cd_M_init, k_ini_M, by decide +kernel, by decide +kernel, by decide +kernel⟩
theorem yc_M_sectors : Yc y_M_sectors b_M_sectors 1 (some .int) 0 := ⟨k_cd_M_sectors, k_ini_M, by decide +kernel, by decide +kernel, by decide +kernel⟩
theorem yv_M_sectors : Yv y_M_sectors b_M_sectors 1 (some .int) 0 := ⟨yc_M_sectors, k_im_M_sectors, k_se_M_sectors⟩
theorem yc_M_cut : Yc y_M_cut b_M_cut 3 none 0 := ⟨k_cd_M_cut, k_ini_M, by decide +kernel, by decide +kernel, by decide +kernel⟩
theorem yv_M_cut : Yv y_M_cut b_M_cut 3 none 0 := ⟨yc_M_cut, k_im_M_cut, k_se_M_cut⟩
theorem yc_M_programmed : Yc y_M_programmed b_M_programmed 4 (some .int) 1 := ⟨k_cd_M_programmed, k_ini_M, by decide +kernel, by decide +kernel, by decide +kernel⟩
theorem yv_M_programmed : Yv y_M_programmed b_M_programmed 4 (some .int) 1 := ⟨yc_M_programmed, k_im_M_programmed, k_se_M_programmed⟩
theorem yc_M_freeBlocks : Yc y_M_freeBlocks b_M_freeBlocks 3 (some .int) 0 := ⟨k_cd_M_freeBlocks, k_ini_M, by decide +kernel, by decide +kernel, by decide +kernel⟩
theorem yv_M_freeBlocks : Yv y_M_freeBlocks b_M_freeBlocks 3 (some .int) 0 := ⟨yc_M_freeBlocks, k_im_M_freeBlocks, k_se_M_freeBlocks⟩
theorem yc_M_pick : Yc y_M_pick b_M_pick 7 (some .int) 2 := ⟨k_cd_M_pick, k_ini_M, by decide +kernel, by decide +kernel, by decide +kernel⟩
theorem yv_M_pick : Yv y_M_pick b_M_pick 7 (some .int) 2 := ⟨yc_M_pick, k_im_M_pick, k_se_M_pick⟩
theorem yc_M_validIn : Yc y_M_validIn b_M_validIn 4 (some .int) 1 := ⟨k_cd_M_validIn, k_ini_M, by decide +kernel, by decide +kernel, by decide +kernel⟩
theorem yv_M_validIn : Yv y_M_validIn b_M_validIn 4 (some .int) 1 := ⟨yc_M_validIn, k_im_M_validIn, k_se_M_validIn⟩
theorem yc_M_isValid : Yc y_M_isValid b_M_isValid 2 (some .boolean) 1 := ⟨k_cd_M_isValid, k_ini_M, by decide +kernel, by decide +kernel, by decide +kernel⟩
theorem yv_M_isValid : Yv y_M_isValid b_M_isValid 2 (some .boolean) 1 := ⟨yc_M_isValid, k_im_M_isValid, k_se_M_isValid⟩
theorem yc_M_newest : Yc y_M_newest b_M_newest 4 (some .int) 1 := ⟨k_cd_M_newest, k_ini_M, by decide +kernel, by decide +kernel, by decide +kernel⟩
theorem yv_M_newest : Yv y_M_newest b_M_newest 4 (some .int) 1 := ⟨yc_M_newest, k_im_M_newest, k_se_M_newest⟩
theorem yc_M_collect : Yc y_M_collect b_M_collect 3 (some .boolean) 1 := ⟨k_cd_M_collect, k_ini_M, by decide +kernel, by decide +kernel, by decide +kernel⟩
theorem yv_M_collect : Yv y_M_collect b_M_collect 3 (some .boolean) 1 := ⟨yc_M_collect, k_im_M_collect, k_se_M_collect⟩
theorem yc_M_put : Yc y_M_put b_M_put 5 (some .boolean) 3 := ⟨k_cd_M_put, k_ini_M, by decide +kernel, by decide +kernel, by decide +kernel⟩
theorem yv_M_put : Yv y_M_put b_M_put 5 (some .boolean) 3 := ⟨yc_M_put, k_im_M_put, k_se_M_put⟩
theorem yc_M_operates : Yc y_M_operates b_M_operates 1 (some .boolean) 0 := ⟨k_cd_M_operates, k_ini_M, by decide +kernel, by decide +kernel, by decide +kernel⟩
theorem yv_M_operates : Yv y_M_operates b_M_operates 1 (some .boolean) 0 := ⟨yc_M_operates, k_im_M_operates, k_se_M_operates⟩
theorem yc_M_write : Yc y_M_write b_M_write 3 (some .int) 2 := ⟨k_cd_M_write, k_ini_M, by decide +kernel, by decide +kernel, by decide +kernel⟩
theorem yv_M_write : Yv y_M_write b_M_write 3 (some .int) 2 := ⟨yc_M_write, k_im_M_write, k_se_M_write⟩
theorem yc_M_change : Yc y_M_change b_M_change 5 (some .int) 3 := ⟨k_cd_M_change, k_ini_M, by decide +kernel, by decide +kernel, by decide +kernel⟩
theorem yv_M_change : Yv y_M_change b_M_change 5 (some .int) 3 := ⟨yc_M_change, k_im_M_change, k_se_M_change⟩
theorem yc_M_isSector : Yc y_M_isSector b_M_isSector 2 (some .boolean) 1 := ⟨k_cd_M_isSector, k_ini_M, by decide +kernel, by decide +kernel, by decide +kernel⟩
theorem yv_M_isSector : Yv y_M_isSector b_M_isSector 2 (some .boolean) 1 := ⟨yc_M_isSector, k_im_M_isSector, k_se_M_isSector⟩
theorem yc_M_find : Yc y_M_find b_M_find 3 (some .int) 1 := ⟨k_cd_M_find, k_ini_M, by decide +kernel, by decide +kernel, by decide +kernel⟩
theorem yv_M_find : Yv y_M_find b_M_find 3 (some .int) 1 := ⟨yc_M_find, k_im_M_find, k_se_M_find⟩
theorem yc_M_store : Yc y_M_store b_M_store 2 (some .boolean) 0 := ⟨k_cd_M_store, k_ini_M, by decide +kernel, by decide +kernel, by decide +kernel⟩
theorem yv_M_store : Yv y_M_store b_M_store 2 (some .boolean) 0 := ⟨yc_M_store, k_im_M_store, k_se_M_store⟩
theorem yc_M_room : Yc y_M_room b_M_room 5 (some .boolean) 0 := ⟨k_cd_M_room, k_ini_M, by decide +kernel, by decide +kernel, by decide +kernel⟩
theorem yv_M_room : Yv y_M_room b_M_room 5 (some .boolean) 0 := ⟨yc_M_room, k_im_M_room, k_se_M_room⟩
theorem yc_M_uneven : Yc y_M_uneven b_M_uneven 4 (some .boolean) 0 := ⟨k_cd_M_uneven, k_ini_M, by decide +kernel, by decide +kernel, by decide +kernel⟩
theorem yv_M_uneven : Yv y_M_uneven b_M_uneven 4 (some .boolean) 0 := ⟨yc_M_uneven, k_im_M_uneven, k_se_M_uneven⟩
theorem yc_M_trim : Yc y_M_trim b_M_trim 2 (some .int) 1 := ⟨k_cd_M_trim, k_ini_M, by decide +kernel, by decide +kernel, by decide +kernel⟩
theorem yv_M_trim : Yv y_M_trim b_M_trim 2 (some .int) 1 := ⟨yc_M_trim, k_im_M_trim, k_se_M_trim⟩
theorem yc_M_flush : Yc y_M_flush b_M_flush 1 (some .int) 0 := ⟨k_cd_M_flush, k_ini_M, by decide +kernel, by decide +kernel, by decide +kernel⟩
theorem yv_M_flush : Yv y_M_flush b_M_flush 1 (some .int) 0 := ⟨yc_M_flush, k_im_M_flush, k_se_M_flush⟩
theorem yc_M_fuse : Yc y_M_fuse b_M_fuse 2 (some .boolean) 1 := ⟨k_cd_M_fuse, k_ini_M, by decide +kernel, by decide +kernel, by decide +kernel⟩
theorem yv_M_fuse : Yv y_M_fuse b_M_fuse 2 (some .boolean) 1 := ⟨yc_M_fuse, k_im_M_fuse, k_se_M_fuse⟩
theorem yc_M_read : Yc y_M_read b_M_read 4 (some .int) 1 := ⟨k_cd_M_read, k_ini_M, by decide +kernel, by decide +kernel, by decide +kernel⟩
theorem yv_M_read : Yv y_M_read b_M_read 4 (some .int) 1 := ⟨yc_M_read, k_im_M_read, k_se_M_read⟩
theorem yc_M_holds : Yc y_M_holds b_M_holds 4 (some .int) 1 := ⟨k_cd_M_holds, k_ini_M, by decide +kernel, by decide +kernel, by decide +kernel⟩
theorem yv_M_holds : Yv y_M_holds b_M_holds 4 (some .int) 1 := ⟨yc_M_holds, k_im_M_holds, k_se_M_holds⟩
theorem yc_M_buffered : Yc y_M_buffered b_M_buffered 1 (some .int) 0 := ⟨k_cd_M_buffered, k_ini_M, by decide +kernel, by decide +kernel, by decide +kernel⟩
theorem yv_M_buffered : Yv y_M_buffered b_M_buffered 1 (some .int) 0 := ⟨yc_M_buffered, k_im_M_buffered, k_se_M_buffered⟩
theorem yc_M_place : Yc y_M_place b_M_place 2 (some .int) 1 := ⟨k_cd_M_place, k_ini_M, by decide +kernel, by decide +kernel, by decide +kernel⟩
theorem yv_M_place : Yv y_M_place b_M_place 2 (some .int) 1 := ⟨yc_M_place, k_im_M_place, k_se_M_place⟩
theorem yc_M_tag : Yc y_M_tag b_M_tag 2 (some .int) 1 := ⟨k_cd_M_tag, k_ini_M, by decide +kernel, by decide +kernel, by decide +kernel⟩
theorem yv_M_tag : Yv y_M_tag b_M_tag 2 (some .int) 1 := ⟨yc_M_tag, k_im_M_tag, k_se_M_tag⟩
theorem yc_M_isPlace : Yc y_M_isPlace b_M_isPlace 2 (some .boolean) 1 := ⟨k_cd_M_isPlace, k_ini_M, by decide +kernel, by decide +kernel, by decide +kernel⟩
theorem yv_M_isPlace : Yv y_M_isPlace b_M_isPlace 2 (some .boolean) 1 := ⟨yc_M_isPlace, k_im_M_isPlace, k_se_M_isPlace⟩
theorem yc_M_serial : Yc y_M_serial b_M_serial 2 (some .int) 1 := ⟨k_cd_M_serial, k_ini_M, by decide +kernel, by decide +kernel, by decide +kernel⟩
theorem yv_M_serial : Yv y_M_serial b_M_serial 2 (some .int) 1 := ⟨yc_M_serial, k_im_M_serial, k_se_M_serial⟩
theorem yc_M_valid : Yc y_M_valid b_M_valid 2 (some .int) 1 := ⟨k_cd_M_valid, k_ini_M, by decide +kernel, by decide +kernel, by decide +kernel⟩
theorem yv_M_valid : Yv y_M_valid b_M_valid 2 (some .int) 1 := ⟨yc_M_valid, k_im_M_valid, k_se_M_valid⟩
theorem yc_M_isBlock : Yc y_M_isBlock b_M_isBlock 2 (some .boolean) 1 := ⟨k_cd_M_isBlock, k_ini_M, by decide +kernel, by decide +kernel, by decide +kernel⟩
theorem yv_M_isBlock : Yv y_M_isBlock b_M_isBlock 2 (some .boolean) 1 := ⟨yc_M_isBlock, k_im_M_isBlock, k_se_M_isBlock⟩
theorem yc_M_erasures : Yc y_M_erasures b_M_erasures 2 (some .int) 1 := ⟨k_cd_M_erasures, k_ini_M, by decide +kernel, by decide +kernel, by decide +kernel⟩
theorem yv_M_erasures : Yv y_M_erasures b_M_erasures 2 (some .int) 1 := ⟨yc_M_erasures, k_im_M_erasures, k_se_M_erasures⟩
theorem yc_M_open : Yc y_M_open b_M_open 1 (some .int) 0 := ⟨k_cd_M_open, k_ini_M, by decide +kernel, by decide +kernel, by decide +kernel⟩
theorem yv_M_open : Yv y_M_open b_M_open 1 (some .int) 0 := ⟨yc_M_open, k_im_M_open, k_se_M_open⟩
theorem yc_M_free : Yc y_M_free b_M_free 1 (some .int) 0 := ⟨k_cd_M_free, k_ini_M, by decide +kernel, by decide +kernel, by decide +kernel⟩
theorem yv_M_free : Yv y_M_free b_M_free 1 (some .int) 0 := ⟨yc_M_free, k_im_M_free, k_se_M_free⟩
theorem yc_M_operations : Yc y_M_operations b_M_operations 1 (some .int) 0 := ⟨k_cd_M_operations, k_ini_M, by decide +kernel, by decide +kernel, by decide +kernel⟩
theorem yv_M_operations : Yv y_M_operations b_M_operations 1 (some .int) 0 := ⟨yc_M_operations, k_im_M_operations, k_se_M_operations⟩
end
section
/-! joins and loops, without spelling W -/
section WL
variable {p : Program} {l : Launch} {e : Env} {R : Room} {s : State} {m : MethodId} {args : Array Value} {below : List Frame} {meth : Method} {c : Code} {H : Heap} {locs : List Loc} {cells slots : Nat} {Q : State → Prop}
variable {cc : ByteArray} {pc : Nat} {ls : Array Slot} {rest st : List Value}
/-- first the way on from g2, then how g comes there -/
theorem W_at {g g2 : JFrame} (k : W p l e R s m args below meth c H locs cells slots Q g2) (br : W p l e R s m args below meth c H locs cells slots Q g2 → W p l e R s m args below meth c H locs cells slots Q g) : W p l e R s m args below meth c H locs cells slots Q g := br k
/-- the same, under a premise -/
theorem W_if {P : Prop} {g g2 : JFrame} (k : P → W p l e R s m args below meth c H locs cells slots Q g2) (br : (P → W p l e R s m args below meth c H locs cells slots Q g2) → W p l e R s m args below meth c H locs cells slots Q g) : W p l e R s m args below meth c H locs cells slots Q g := br k
/-- the way on from g2 whatever heap and locals: with an invariant -/
theorem W_atH {g : JFrame} {pc2 : Nat} {st2 : List Value} (Inv : Heap → List Loc → Array Slot → Prop) (k : ∀ H locs ls, Inv H locs ls → W p l e R s m args below meth c H locs cells slots Q (F0 m pc2 ls st2)) (br : (∀ H locs ls, Inv H locs ls → W p l e R s m args below meth c H locs cells slots Q (F0 m pc2 ls st2)) → W p l e R s m args below meth c H locs cells slots Q g) : W p l e R s m args below meth c H locs cells slots Q g := br k
/-- a loop that counts up and only reads -/
theorem W_for {N nL : Nat} (lv : Nat → List (Nat × Value)) (hstep : ∀ i, i < N → (∀ ls, lv_has ls nL (lv (i + 1)) → W p l e R s m args below meth c H locs cells slots Q (F0 m pc ls st)) → ∀ ls, lv_has ls nL (lv i) → W p l e R s m args below meth c H locs cells slots Q (F0 m pc ls st)) (hend : ∀ ls, lv_has ls nL (lv N) → W p l e R s m args below meth c H locs cells slots Q (F0 m pc ls st)) (i : Nat) (hi : i ≤ N) (ls : Array Slot) (h : lv_has ls nL (lv i)) : W p l e R s m args below meth c H locs cells slots Q (F0 m pc ls st) := by
  suffices ∀ k i, i ≤ N → N - i = k → ∀ ls, lv_has ls nL (lv i) → W p l e R s m args below meth c H locs cells slots Q (F0 m pc ls st) from this _ i hi rfl ls h
  intro k
  induction k with
  | zero =>
    intro i hi hk ls h
    have : i = N := by omega
    subst this
    exact hend ls h
  | succ k ih =>
    intro i hi hk ls h
    exact hstep i (by omega) (ih (i + 1) (by omega) (by omega)) ls h
/-- a loop over states: μ falls -/
theorem W_while {σ : Type} (μ : σ → Nat) (Inv : σ → Heap → List Loc → Array Slot → Prop) (hstep : ∀ x H locs ls, Inv x H locs ls → (∀ x' H locs ls, μ x' < μ x → Inv x' H locs ls → W p l e R s m args below meth c H locs cells slots Q (F0 m pc ls st)) → W p l e R s m args below meth c H locs cells slots Q (F0 m pc ls st)) (x : σ) (h : Inv x H locs ls) : W p l e R s m args below meth c H locs cells slots Q (F0 m pc ls st) := by
  suffices ∀ k x, μ x < k → ∀ H locs ls, Inv x H locs ls → W p l e R s m args below meth c H locs cells slots Q (F0 m pc ls st) from this _ x (Nat.lt_succ_self _) H locs ls h
  intro k
  induction k with
  | zero => intro x hx; omega
  | succ k ih =>
    intro x hx H locs ls h
    exact hstep x H locs ls h (fun x' H locs ls hl h' => ih x' (by omega) H locs ls h')
/-- a reference or null -/
theorem x_aload_nq (hexec : p.tables.exec = Jvm.exec) (hb : c.code = cc) {k : Fin 4} {i : Nat} {o : Option Nat} (hdg : decode cc pc = .ok (.aload_n k, 1)) (hi : (k : Nat) = i) (hl : ls[i]? = some (.val (va_rf o)))
    (k : W p l e R s m args below meth c H locs cells slots Q (F0 m (pc + 1) ls (va_rf o :: rest))) : W p l e R s m args below meth c H locs cells slots Q (F0 m pc ls rest) := by
  cases o with
  | none => exact lv_aload_nN hexec hb hdg hi hl k
  | some a => exact lv_aload_n hexec hb hdg hi hl k
theorem x_aloadq (hexec : p.tables.exec = Jvm.exec) (hb : c.code = cc) {i : Nat} {o : Option Nat} (hdg : decode cc pc = .ok (.aload i, 2)) (hl : ls[i]? = some (.val (va_rf o)))
    (k : W p l e R s m args below meth c H locs cells slots Q (F0 m (pc + 2) ls (va_rf o :: rest))) : W p l e R s m args below meth c H locs cells slots Q (F0 m pc ls rest) := by
  cases o with
  | none => exact lv_aloadN hexec hb hdg hl k
  | some a => exact lv_aload hexec hb hdg hl k
theorem x_astore_nq (hexec : p.tables.exec = Jvm.exec) (hb : c.code = cc) {k : Fin 4} {i nL : Nat} {o : Option Nat} {lv lv' : List (Nat × Value)} (hdg : decode cc pc = .ok (.astore_n k, 1)) (hi : (k : Nat) = i) (h : lv_has ls nL lv) (hn : i < nL) (hl : (i, va_rf o) :: lv.filter (fun q => !(q.1 == i) && !(q.1 + 1 == i && q.2.category == 2)) = lv')
    (kk : ∀ ls' : Array Slot, lv_has ls' nL lv' → W p l e R s m args below meth c H locs cells slots Q (F0 m (pc + 1) ls' rest)) : W p l e R s m args below meth c H locs cells slots Q (F0 m pc ls (va_rf o :: rest)) := by
  cases o with
  | none => exact lv_astore_nN hexec hb hdg hi h hn hl kk
  | some a => exact lv_astore_n hexec hb hdg hi h hn hl kk
theorem x_astoreq (hexec : p.tables.exec = Jvm.exec) (hb : c.code = cc) {i nL : Nat} {o : Option Nat} {lv lv' : List (Nat × Value)} (hdg : decode cc pc = .ok (.astore i, 2)) (h : lv_has ls nL lv) (hn : i < nL) (hl : (i, va_rf o) :: lv.filter (fun q => !(q.1 == i) && !(q.1 + 1 == i && q.2.category == 2)) = lv')
    (kk : ∀ ls' : Array Slot, lv_has ls' nL lv' → W p l e R s m args below meth c H locs cells slots Q (F0 m (pc + 2) ls' rest)) : W p l e R s m args below meth c H locs cells slots Q (F0 m pc ls (va_rf o :: rest)) := by
  cases o with
  | none => exact lv_astoreN hexec hb hdg h hn hl kk
  | some a => exact lv_astore hexec hb hdg h hn hl kk
end WL
/-! the twin's receiver, at a call -/
section MCV
variable {p : Program} {l : Launch} {e : Env} {R : Room} {s : State} {m : MethodId} {args : Array Value} {below : List Frame} {meth : Method} {c : Code} {H : Heap} {locs : List Loc} {cells slots : Nat} {Q : State → Prop}
variable {cc : ByteArray} {nL pc : Nat} {ls : Array Slot} {rest st : List Value} {D : va_G} {cs : Nat → ClassId} {own : String} {ad : Nat → Nat} {S : SM}
variable {y : MethodName} {bytes : ByteArray} {maxL d np index : Nat} {ret : Option FieldType} {As : List Value}
theorem mc_ROi {post : Int32 → Prop} (C : Cc p m c cc nL s args own D cs) (hI : In D ad 9 s (eM ad cs S) H locs) (hM : ROi l D cs ad 9 (eM ad cs S) y bytes maxL ret d (.ref (ad 0) :: As) post) (Y : Yv y bytes maxL ret np) (hl : Cond.methodLink own index y ∈ tbG) (hy : y.cls = R_M) (hR : d + 1 ≤ R.frames ∧ 8 + (maxL + 11) + 27 * d ≤ R.locals) (hn : As.length = np) (hls : ls.size = nL) (hst : st = As.reverse ++ .ref (ad 0) :: rest) (hW : (rest.map fun v => v.category).sum ≤ 8) (hdg : decode cc pc = .ok (.invokevirtual index, 3)) (hf : cells ≤ R.cells ∧ slots ≤ R.slots)
    (kk : ∀ r : Int32, post r → W p l e R s m args below meth c H locs cells slots Q (F0 m (pc + 3) ls (.int r :: rest))) : W p l e R s m args below meth c H locs cells slots Q (F0 m pc ls st) :=
  cv_ROi (r := (R_M, F_M, 16)) C hI hM Y hl hR (by omega) (ci := 5) rfl rfl hy.symm hn hls hst hW hdg hf kk
theorem mc_RWi {u0 : SM} {post : Int32 → SM → Prop} (C : Cc p m c cc nL s args own D cs) (hI : In D ad 9 s (eM ad cs u0) H locs) (hM : RWi l D cs ad 9 (eM ad cs) y bytes maxL ret d (.ref (ad 0) :: As) u0 post) (Y : Yv y bytes maxL ret np) (hl : Cond.methodLink own index y ∈ tbG) (hy : y.cls = R_M) (hR : d + 1 ≤ R.frames ∧ 8 + (maxL + 11) + 27 * d ≤ R.locals) (hn : As.length = np) (hls : ls.size = nL) (hst : st = As.reverse ++ .ref (ad 0) :: rest) (hW : (rest.map fun v => v.category).sum ≤ 8) (hdg : decode cc pc = .ok (.invokevirtual index, 3)) (hf : cells ≤ R.cells ∧ slots ≤ R.slots)
    (kk : ∀ (r : Int32) (u : SM) (H1 : Heap) (locs1 : List Loc), post r u → In D ad 9 s (eM ad cs u) H1 locs1 → W p l e R s m args below meth c H1 locs1 cells slots Q (F0 m (pc + 3) ls (.int r :: rest))) : W p l e R s m args below meth c H locs cells slots Q (F0 m pc ls st) :=
  cv_RWi (r := (R_M, F_M, 16)) C hI hM Y hl hR (by omega) (ci := 5) rfl rfl hy.symm hn hls hst hW hdg hf kk
theorem mc_RWv {u0 : SM} {post : SM → Prop} (C : Cc p m c cc nL s args own D cs) (hI : In D ad 9 s (eM ad cs u0) H locs) (hM : RWv l D cs ad 9 (eM ad cs) y bytes maxL ret d (.ref (ad 0) :: As) u0 post) (Y : Yv y bytes maxL ret np) (hl : Cond.methodLink own index y ∈ tbG) (hy : y.cls = R_M) (hR : d + 1 ≤ R.frames ∧ 8 + (maxL + 11) + 27 * d ≤ R.locals) (hn : As.length = np) (hls : ls.size = nL) (hst : st = As.reverse ++ .ref (ad 0) :: rest) (hW : (rest.map fun v => v.category).sum ≤ 8) (hdg : decode cc pc = .ok (.invokevirtual index, 3)) (hf : cells ≤ R.cells ∧ slots ≤ R.slots)
    (kk : ∀ (u : SM) (H1 : Heap) (locs1 : List Loc), post u → In D ad 9 s (eM ad cs u) H1 locs1 → W p l e R s m args below meth c H1 locs1 cells slots Q (F0 m (pc + 3) ls rest)) : W p l e R s m args below meth c H locs cells slots Q (F0 m pc ls st) :=
  cv_RWv (r := (R_M, F_M, 16)) C hI hM Y hl hR (by omega) (ci := 5) rfl rfl hy.symm hn hls hst hW hdg hf kk
end MCV
end
section
/-! THE TWIN: methods that only read -/
theorem bst_no {ok : Nat → Bool} {lt : Nat → Nat → Bool} {k : Nat} (h : ok k = false) : bst ok lt (k + 1) = bst ok lt k := by
  conv => lhs; unfold bst
  cases hb : bst ok lt k <;> simp [h]
theorem bst_first {ok : Nat → Bool} {lt : Nat → Nat → Bool} {k : Nat} (h : ok k = true) (hb : bst ok lt k = none) : bst ok lt (k + 1) = some k := by
  conv => lhs; unfold bst
  simp [h, hb]
theorem bst_take {ok : Nat → Bool} {lt : Nat → Nat → Bool} {k j : Nat} (h : ok k = true) (hb : bst ok lt k = some j) (hl : lt k j = true) : bst ok lt (k + 1) = some k := by
  conv => lhs; unfold bst
  simp [h, hb, hl]
theorem bst_keep {ok : Nat → Bool} {lt : Nat → Nat → Bool} {k j : Nat} (hb : bst ok lt k = some j) (hl : lt k j = false) : bst ok lt (k + 1) = some j := by
  conv => lhs; unfold bst
  simp [hb, hl]
theorem prg_eq (F : Fl) (b q : Nat) (hq : q < 4) : prg F (4 * b + q) = decide (q < fUs F b) := by
  unfold prg
  rw [show (4 * b + q) / 4 = b by omega, show (4 * b + q) % 4 = q by omega]
theorem cnt_yes {f : Nat → Bool} {k : Nat} (h : f k = true) : cnt f (k + 1) = cnt f k + 1 := by simp [cnt, h]
theorem cnt_no {f : Nat → Bool} {k : Nat} (h : f k = false) : cnt f (k + 1) = cnt f k + 0 := by simp [cnt, h]
section MR
variable {l : Launch} {D : va_G} {cs : Nat → ClassId} {ad : Nat → Nat} {nb sp : Nat} {F : Fl} {S : SM}
theorem c_M_sectors (hG : Geo ad 9) (hR : RM nb sp F S) (hB : WB nb sp F) : ROi l D cs ad 9 (eM ad cs S) y_M_sectors b_M_sectors 1 (some .int) 0 [.ref (ad 0)] (fun r => r = nI (4 * (nb - 3))) := by
  refine MC.intro (by decide) (Nat.le_of_ble_eq_true rfl) ?_
  intro p e s m below meth c C hr hlk hnm hH ls hl
  have hI : In D ad 9 s (eM ad cs S) s.heap [] := ⟨hG, hH, va_S.rf⟩
  have hx := C.1.1
  have hb := C.1.2.1
  have h1 := hB.nb
  refine lv_iconst (v := nI 4) hx hb d_M_sectors_0 (by decide) ?_
  refine lv_aload_n hx hb d_M_sectors_1 rfl (lv_at hl 0 rfl) ?_
  refine m_geti C hI 0 (by decide) k_fl_M_38 rfl rfl (hR.nb) d_M_sectors_2 ?_
  refine lv_iconst (v := nI 3) hx hb d_M_sectors_5 (by decide) ?_
  refine an_sub C (by omega) d_M_sectors_6 ?_
  refine an_mul C d_M_sectors_7 ?_
  exact rt_ROi C hr hlk rfl d_M_sectors_8
theorem c_M_isSector (hG : Geo ad 9) (hR : RM nb sp F S) (hB : WB nb sp F) (x : Int32) : ROi l D cs ad 9 (eM ad cs S) y_M_isSector b_M_isSector 2 (some .boolean) 1 [.ref (ad 0), .int x] (fun r => r = bI (inR (4 * (nb - 3)) x).isSome) := by
  refine MC.intro (by decide) (Nat.le_of_ble_eq_true rfl) ?_
  intro p e s m below meth c C hr hlk hnm hH ls hl
  have hI : In D ad 9 s (eM ad cs S) s.heap [] := ⟨hG, hH, va_S.rf⟩
  have hx := C.1.1
  have hb := C.1.2.1
  have h1 := hB.nb
  refine lv_iload_n hx hb d_M_isSector_0 rfl (lv_at hl 1 rfl) ?_
  refine lv_if_lt (tgt := 16) hx hb d_M_isSector_1 (by decide) (fun c => ?_) (fun c => ?_)
  · refine lv_iconst (v := 0) hx hb d_M_isSector_16 (by decide) ?_
    exact rt_ROz C hr hlk rfl (by rw [inR_neg c]; rfl) d_M_isSector_17
  · refine lv_iload_n hx hb d_M_isSector_4 rfl (lv_at hl 1 rfl) ?_
    refine lv_aload_n hx hb d_M_isSector_5 rfl (lv_at hl 0 rfl) ?_
    refine mc_ROi C hI (c_M_sectors hG hR hB) yv_M_sectors k_ml_M_44 rfl (by decide) rfl hl.1 rfl (Nat.le_of_ble_eq_true rfl) d_M_isSector_6 ⟨Nat.le_refl _, Nat.le_refl _⟩ (fun r hp => ?_)
    subst hp
    refine lv_icmp_ge (tgt := 16) hx hb d_M_isSector_9 (by decide) (fun d => ?_) (fun d => ?_)
    · refine lv_iconst (v := 0) hx hb d_M_isSector_16 (by decide) ?_
      exact rt_ROz C hr hlk rfl (by rw [inR_big (by omega) d]; rfl) d_M_isSector_17
    · obtain ⟨j, hj, rfl, e1⟩ := inR_ok (by omega) c d
      refine lv_iconst (v := 1) hx hb d_M_isSector_12 (by decide) ?_
      refine lv_goto (tgt := 17) hx hb d_M_isSector_13 (by decide) ?_
      exact rt_ROz C hr hlk rfl (by rw [e1]; rfl) d_M_isSector_17
theorem c_M_isBlock (hG : Geo ad 9) (hR : RM nb sp F S) (hB : WB nb sp F) (x : Int32) : ROi l D cs ad 9 (eM ad cs S) y_M_isBlock b_M_isBlock 2 (some .boolean) 0 [.ref (ad 0), .int x] (fun r => r = bI (inR nb x).isSome) := by
  refine MC.intro (by decide) (Nat.le_of_ble_eq_true rfl) ?_
  intro p e s m below meth c C hr hlk hnm hH ls hl
  have hI : In D ad 9 s (eM ad cs S) s.heap [] := ⟨hG, hH, va_S.rf⟩
  have hx := C.1.1
  have hb := C.1.2.1
  have h1 := hB.nb
  refine lv_iload_n hx hb d_M_isBlock_0 rfl (lv_at hl 1 rfl) ?_
  refine lv_if_lt (tgt := 16) hx hb d_M_isBlock_1 (by decide) (fun c => ?_) (fun c => ?_)
  · refine lv_iconst (v := 0) hx hb d_M_isBlock_16 (by decide) ?_
    exact rt_ROz C hr hlk rfl (by rw [inR_neg c]; rfl) d_M_isBlock_17
  · refine lv_iload_n hx hb d_M_isBlock_4 rfl (lv_at hl 1 rfl) ?_
    refine lv_aload_n hx hb d_M_isBlock_5 rfl (lv_at hl 0 rfl) ?_
    refine m_geti C hI 0 (by decide) k_fl_M_38 rfl rfl (hR.nb) d_M_isBlock_6 ?_
    refine lv_icmp_ge (tgt := 16) hx hb d_M_isBlock_9 (by decide) (fun d => ?_) (fun d => ?_)
    · refine lv_iconst (v := 0) hx hb d_M_isBlock_16 (by decide) ?_
      exact rt_ROz C hr hlk rfl (by rw [inR_big (by omega) d]; rfl) d_M_isBlock_17
    · obtain ⟨j, hj, rfl, e1⟩ := inR_ok (by omega) c d
      refine lv_iconst (v := 1) hx hb d_M_isBlock_12 (by decide) ?_
      refine lv_goto (tgt := 17) hx hb d_M_isBlock_13 (by decide) ?_
      exact rt_ROz C hr hlk rfl (by rw [e1]; rfl) d_M_isBlock_17
theorem c_M_isPlace (hG : Geo ad 9) (hR : RM nb sp F S) (hB : WB nb sp F) (x : Int32) : ROi l D cs ad 9 (eM ad cs S) y_M_isPlace b_M_isPlace 2 (some .boolean) 0 [.ref (ad 0), .int x] (fun r => r = bI (inR (4 * nb) x).isSome) := by
  refine MC.intro (by decide) (Nat.le_of_ble_eq_true rfl) ?_
  intro p e s m below meth c C hr hlk hnm hH ls hl
  have hI : In D ad 9 s (eM ad cs S) s.heap [] := ⟨hG, hH, va_S.rf⟩
  have hx := C.1.1
  have hb := C.1.2.1
  have h1 := hB.nb
  refine lv_iload_n hx hb d_M_isPlace_0 rfl (lv_at hl 1 rfl) ?_
  refine lv_if_lt (tgt := 18) hx hb d_M_isPlace_1 (by decide) (fun c => ?_) (fun c => ?_)
  · refine lv_iconst (v := 0) hx hb d_M_isPlace_18 (by decide) ?_
    exact rt_ROz C hr hlk rfl (by rw [inR_neg c]; rfl) d_M_isPlace_19
  · refine lv_iload_n hx hb d_M_isPlace_4 rfl (lv_at hl 1 rfl) ?_
    refine lv_iconst (v := nI 4) hx hb d_M_isPlace_5 (by decide) ?_
    refine lv_aload_n hx hb d_M_isPlace_6 rfl (lv_at hl 0 rfl) ?_
    refine m_geti C hI 0 (by decide) k_fl_M_38 rfl rfl (hR.nb) d_M_isPlace_7 ?_
    refine an_mul C d_M_isPlace_10 ?_
    refine lv_icmp_ge (tgt := 18) hx hb d_M_isPlace_11 (by decide) (fun d => ?_) (fun d => ?_)
    · refine lv_iconst (v := 0) hx hb d_M_isPlace_18 (by decide) ?_
      exact rt_ROz C hr hlk rfl (by rw [inR_big (by omega) d]; rfl) d_M_isPlace_19
    · obtain ⟨j, hj, rfl, e1⟩ := inR_ok (by omega) c d
      refine lv_iconst (v := 1) hx hb d_M_isPlace_14 (by decide) ?_
      refine lv_goto (tgt := 19) hx hb d_M_isPlace_15 (by decide) ?_
      exact rt_ROz C hr hlk rfl (by rw [e1]; rfl) d_M_isPlace_19
theorem c_M_programmed0 (hG : Geo ad 9) (h1 : 5 ≤ nb ∧ nb ≤ 12) (hsc : ∀ p, p < 4 * nb → S.2 0 p = if prg F p then nI (fSc F p) else -1) (hs : ∀ p, p < 4 * nb → prg F p = true → fSc F p < 4 * (nb - 3)) {b : Nat} (hb0 : b < nb) (h2 : fUs F b ≤ 4) : ROi l D cs ad 9 (eM ad cs S) y_M_programmed b_M_programmed 4 (some .int) 0 [.ref (ad 0), .int (nI b)] (fun r => r = nI (fUs F b)) := by
  refine MC.intro (by decide) (Nat.le_of_ble_eq_true rfl) ?_
  intro p e s m below meth c C hr hlk hnm hH ls hl
  have hI : In D ad 9 s (eM ad cs S) s.heap [] := ⟨hG, hH, va_S.rf⟩
  have hx := C.1.1
  have hb := C.1.2.1
  refine lv_iconst (v := nI 0) hx hb d_M_programmed_0 (by decide) ?_
  refine lv_istore_n (lv' := [(2, _), (0, _), (1, _)]) hx hb d_M_programmed_1 rfl hl (by decide) rfl (fun ls hl => ?_)
  refine lv_iconst (v := nI 0) hx hb d_M_programmed_2 (by decide) ?_
  refine lv_istore_n (lv' := [(3, _), (2, _), (0, _), (1, _)]) hx hb d_M_programmed_3 rfl hl (by decide) rfl (fun ls hl => ?_)
  refine W_for (N := 4) (fun i => [(0, .ref (ad 0)), (1, .int (nI b)), (2, .int (nI (min i (fUs F b)))), (3, .int (nI i))]) ?_ ?_ 0 (by omega) ls (lv_sub hl [2, 3, 1, 0] rfl)
  · intro i hi ih ls hl
    refine lv_iload_n hx hb d_M_programmed_4 rfl (lv_at hl 3 rfl) ?_
    refine lv_iconst (v := nI 4) hx hb d_M_programmed_5 (by decide) ?_
    refine bn_ge (tgt := 37) C (by omega) (by omega) d_M_programmed_6 (by decide) (fun c => ?_) (fun c => ?_)
    · omega
    · refine lv_iload_n hx hb d_M_programmed_9 rfl (lv_at hl 2 rfl) ?_
      refine lv_aload_n hx hb d_M_programmed_10 rfl (lv_at hl 0 rfl) ?_
      refine m_getr C hI 2 (by decide) k_fl_M_7 rfl 1 rfl d_M_programmed_11 ?_
      refine lv_iconst (v := nI 4) hx hb d_M_programmed_14 (by decide) ?_
      refine lv_iload_n hx hb d_M_programmed_15 rfl (lv_at hl 1 rfl) ?_
      refine an_mul C d_M_programmed_16 ?_
      refine lv_iload_n hx hb d_M_programmed_17 rfl (lv_at hl 3 rfl) ?_
      refine an_add C d_M_programmed_18 ?_
      have hq : (4 * b + i) / 4 = b ∧ (4 * b + i) % 4 = i := by omega
      refine W_at (g2 := F0 m 29 ls [.int (nI (if i < fUs F b then 1 else 0)), .int (nI (min i (fUs F b)))]) ?_ (fun J => ?_)
      · refine an_add C d_M_programmed_29 ?_
        refine lv_istore_n (lv' := [(2, _), (0, _), (1, _), (3, _)]) hx hb d_M_programmed_30 rfl hl (by decide) rfl (fun ls hl => ?_)
        refine lv_iinc (lv' := [(3, _), (2, _), (0, _), (1, _)]) hx hb d_M_programmed_31 hl (k := 3) rfl (nI_inc _) (by decide) rfl (fun ls hl => ?_)
        refine lv_goto (tgt := 4) hx hb d_M_programmed_34 (by decide) ?_
        refine ih ls (lv_sub hl [2, 3, 1, 0] (by
          have e : min i (fUs F b) + (if i < fUs F b then 1 else 0) = min (i + 1) (fUs F b) := by split <;> omega
          rw [e]; rfl))
      · refine m_ald C hI 0 (by omega) (i := 4 * b + i) (show 4 * b + i < 48 by omega) (hsc _ (by omega)) d_M_programmed_19 ?_
        refine lv_iconst (v := -1) hx hb d_M_programmed_20 (by decide) ?_
        by_cases hp : i < fUs F b
        · have e : prg F (4 * b + i) = true := by unfold prg; rw [hq.1, hq.2]; exact decide_eq_true hp
          rw [if_pos e]
          rw [if_pos hp] at J
          refine lv_icmp_ne (tgt := 28) hx hb d_M_programmed_21 (by decide) (fun d => ?_) (fun d => ?_)
          · refine lv_iconst (v := nI 1) hx hb d_M_programmed_28 (by decide) ?_
            exact J
          · exact absurd d (nI_nem1 (by have := hs _ (by omega) e; omega))
        · have e : prg F (4 * b + i) = false := by unfold prg; rw [hq.1, hq.2]; exact decide_eq_false hp
          rw [if_neg (by rw [e]; decide)]
          rw [if_neg hp] at J
          refine lv_icmp_ne (tgt := 28) hx hb d_M_programmed_21 (by decide) (fun d => ?_) (fun d => ?_)
          · exact absurd rfl d
          · refine lv_iconst (v := nI 0) hx hb d_M_programmed_24 (by decide) ?_
            refine lv_goto (tgt := 29) hx hb d_M_programmed_25 (by decide) ?_
            exact J
  · intro ls hl
    refine lv_iload_n hx hb d_M_programmed_4 rfl (lv_at hl 3 rfl) ?_
    refine lv_iconst (v := nI 4) hx hb d_M_programmed_5 (by decide) ?_
    refine bn_ge (tgt := 37) C (by omega) (by omega) d_M_programmed_6 (by decide) (fun c => ?_) (fun c => ?_)
    · refine lv_iload_n hx hb d_M_programmed_37 rfl (lv_at hl 2 rfl) ?_
      have e : min 4 (fUs F b) = fUs F b := by omega
      rw [e]
      exact rt_ROi C hr hlk rfl d_M_programmed_38
    · omega
theorem c_M_programmed (hG : Geo ad 9) (hR : RM nb sp F S) (hB : WB nb sp F) {b : Nat} (hb0 : b < nb) : ROi l D cs ad 9 (eM ad cs S) y_M_programmed b_M_programmed 4 (some .int) 0 [.ref (ad 0), .int (nI b)] (fun r => r = nI (fUs F b)) := c_M_programmed0 hG hB.nb hR.sc hB.sc hb0 (hB.us b hb0)
theorem c_M_newest (hG : Geo ad 9) (hR : RM nb sp F S) (hB : WB nb sp F) {q : Nat} (hq : q < 4 * (nb - 3)) : ROi l D cs ad 9 (eM ad cs S) y_M_newest b_M_newest 4 (some .int) 0 [.ref (ad 0), .int (nI q)] (fun r => r = oI (fNew nb F q)) := by
  refine MC.intro (by decide) (Nat.le_of_ble_eq_true rfl) ?_
  intro p e s m below meth c C hr hlk hnm hH ls hl
  have hI : In D ad 9 s (eM ad cs S) s.heap [] := ⟨hG, hH, va_S.rf⟩
  have hx := C.1.1
  have hb := C.1.2.1
  have h1 := hB.nb
  have h3 := hB.nx
  refine lv_iconst (v := -1) hx hb d_M_newest_0 (by decide) ?_
  refine lv_istore_n (lv' := [(2, _), (0, _), (1, _)]) hx hb d_M_newest_1 rfl hl (by decide) rfl (fun ls hl => ?_)
  refine lv_iconst (v := nI 0) hx hb d_M_newest_2 (by decide) ?_
  refine lv_istore_n (lv' := [(3, _), (2, _), (0, _), (1, _)]) hx hb d_M_newest_3 rfl hl (by decide) rfl (fun ls hl => ?_)
  refine W_for (N := 4 * nb) (fun i => [(0, .ref (ad 0)), (1, .int (nI q)), (2, .int (oI (bst (nwOk F q) (nwLt F) i))), (3, .int (nI i))]) ?_ ?_ 0 (by omega) ls (lv_sub hl [2, 3, 1, 0] rfl)
  · intro i hi ih ls hl
    refine lv_iload_n hx hb d_M_newest_4 rfl (lv_at hl 3 rfl) ?_
    refine lv_iconst (v := nI 4) hx hb d_M_newest_5 (by decide) ?_
    refine lv_aload_n hx hb d_M_newest_6 rfl (lv_at hl 0 rfl) ?_
    refine m_geti C hI 0 (by decide) k_fl_M_38 rfl rfl (hR.nb) d_M_newest_7 ?_
    refine an_mul C d_M_newest_10 ?_
    refine bn_ge (tgt := 52) C (by omega) (by omega) d_M_newest_11 (by decide) (fun c => ?_) (fun c => ?_)
    · omega
    · refine lv_aload_n hx hb d_M_newest_14 rfl (lv_at hl 0 rfl) ?_
      refine m_getr C hI 2 (by decide) k_fl_M_7 rfl 1 rfl d_M_newest_15 ?_
      refine lv_iload_n hx hb d_M_newest_18 rfl (lv_at hl 3 rfl) ?_
      refine m_ald C hI 0 (by omega) (i := i) (show i < 48 by omega) (hR.sc _ hi) d_M_newest_19 ?_
      refine lv_iload_n hx hb d_M_newest_20 rfl (lv_at hl 1 rfl) ?_
      refine W_if (P := nwOk F q i = false) (g2 := F0 m 46 ls []) (fun hn => ?_) (fun no => ?_)
      · refine lv_iinc (lv' := [(3, _), (0, _), (1, _), (2, _)]) hx hb d_M_newest_46 hl (k := 3) rfl (nI_inc _) (by decide) rfl (fun ls hl => ?_)
        refine lv_goto (tgt := 4) hx hb d_M_newest_49 (by decide) ?_
        exact ih ls (lv_sub hl [1, 2, 3, 0] (by rw [bst_no hn]; rfl))
      by_cases hp : prg F i = true
      · rw [if_pos hp]
        have hs1 := hB.sc i hi hp
        refine bn_ne (tgt := 46) C (by omega) (by omega) d_M_newest_21 (by decide) (fun c2 => ?_) (fun c2 => ?_)
        · exact no (by unfold nwOk; simp [c2])
        · have hok : nwOk F q i = true := by unfold nwOk; simp [hp, c2]
          refine lv_iload_n hx hb d_M_newest_24 rfl (lv_at hl 2 rfl) ?_
          refine lv_iconst (v := -1) hx hb d_M_newest_25 (by decide) ?_
          refine bo_eq (tgt := 44) C (fun j hj => by have := (bst_lt hj).1; omega) d_M_newest_26 (by decide) (fun c3 => ?_) (fun j26 c3 => ?_)
          · refine lv_iload_n hx hb d_M_newest_44 rfl (lv_at hl 3 rfl) ?_
            refine lv_istore_n (lv' := [(2, _), (0, _), (1, _), (3, _)]) hx hb d_M_newest_45 rfl hl (by decide) rfl (fun ls hl => ?_)
            refine lv_iinc (lv' := [(3, _), (2, _), (0, _), (1, _)]) hx hb d_M_newest_46 hl (k := 3) rfl (nI_inc _) (by decide) rfl (fun ls hl => ?_)
            refine lv_goto (tgt := 4) hx hb d_M_newest_49 (by decide) ?_
            exact ih ls (lv_sub hl [2, 3, 1, 0] (by rw [bst_first hok c3]; rfl))
          · have hj := bst_lt c3
            have hjp : prg F j26 = true := by have := hj.2; unfold nwOk at this; simp at this; exact this.1
            have hs2 := hB.sr i hi hp
            have hs3 := hB.sr j26 (by omega) hjp
            refine lv_aload_n hx hb d_M_newest_29 rfl (lv_at hl 0 rfl) ?_
            refine m_getr C hI 4 (by decide) k_fl_M_16 rfl 3 rfl d_M_newest_30 ?_
            refine lv_iload_n hx hb d_M_newest_33 rfl (lv_at hl 3 rfl) ?_
            refine m_ald C hI 2 (by omega) (i := i) (show i < 48 by omega) (hR.pg _ hi hp).2.1 d_M_newest_34 ?_
            refine lv_aload_n hx hb d_M_newest_35 rfl (lv_at hl 0 rfl) ?_
            refine m_getr C hI 4 (by decide) k_fl_M_16 rfl 3 rfl d_M_newest_36 ?_
            refine lv_iload_n (x := nI j26) hx hb d_M_newest_39 rfl (by rw [← oI_some, ← c3]; exact lv_at hl 2 rfl) ?_
            refine m_ald C hI 2 (by omega) (i := j26) (show j26 < 48 by omega) (hR.pg _ (by omega) hjp).2.1 d_M_newest_40 ?_
            refine bn_le (tgt := 46) C (by omega) (by omega) d_M_newest_41 (by decide) (fun c4 => ?_) (fun c4 => ?_)
            · refine lv_iinc (lv' := [(3, _), (0, _), (1, _), (2, _)]) hx hb d_M_newest_46 hl (k := 3) rfl (nI_inc _) (by decide) rfl (fun ls hl => ?_)
              refine lv_goto (tgt := 4) hx hb d_M_newest_49 (by decide) ?_
              exact ih ls (lv_sub hl [1, 2, 3, 0] (by rw [bst_keep c3 (by unfold nwLt; simp; omega), c3]; rfl))
            · refine lv_iload_n hx hb d_M_newest_44 rfl (lv_at hl 3 rfl) ?_
              refine lv_istore_n (lv' := [(2, _), (0, _), (1, _), (3, _)]) hx hb d_M_newest_45 rfl hl (by decide) rfl (fun ls hl => ?_)
              refine lv_iinc (lv' := [(3, _), (2, _), (0, _), (1, _)]) hx hb d_M_newest_46 hl (k := 3) rfl (nI_inc _) (by decide) rfl (fun ls hl => ?_)
              refine lv_goto (tgt := 4) hx hb d_M_newest_49 (by decide) ?_
              exact ih ls (lv_sub hl [2, 3, 1, 0] (by rw [bst_take hok c3 (by unfold nwLt; simp; omega)]; rfl))
      · rw [if_neg hp]
        refine lv_icmp_ne (tgt := 46) hx hb d_M_newest_21 (by decide) (fun c2 => ?_) (fun c2 => ?_)
        · exact no (by unfold nwOk; simp [hp])
        · exact absurd c2.symm (nI_nem1 (by omega))
  · intro ls hl
    refine lv_iload_n hx hb d_M_newest_4 rfl (lv_at hl 3 rfl) ?_
    refine lv_iconst (v := nI 4) hx hb d_M_newest_5 (by decide) ?_
    refine lv_aload_n hx hb d_M_newest_6 rfl (lv_at hl 0 rfl) ?_
    refine m_geti C hI 0 (by decide) k_fl_M_38 rfl rfl (hR.nb) d_M_newest_7 ?_
    refine an_mul C d_M_newest_10 ?_
    refine bn_ge (tgt := 52) C (by omega) (by omega) d_M_newest_11 (by decide) (fun c => ?_) (fun c => ?_)
    · refine lv_iload_n hx hb d_M_newest_52 rfl (lv_at hl 2 rfl) ?_
      exact rt_ROi C hr hlk rfl d_M_newest_53
    · omega
theorem c_M_isValid (hG : Geo ad 9) (hR : RM nb sp F S) (hB : WB nb sp F) {q : Nat} (hq : q < 4 * nb) : ROi l D cs ad 9 (eM ad cs S) y_M_isValid b_M_isValid 2 (some .boolean) 1 [.ref (ad 0), .int (nI q)] (fun r => r = bI (vld nb F q)) := by
  refine MC.intro (by decide) (Nat.le_of_ble_eq_true rfl) ?_
  intro p e s m below meth c C hr hlk hnm hH ls hl
  have hI : In D ad 9 s (eM ad cs S) s.heap [] := ⟨hG, hH, va_S.rf⟩
  have hx := C.1.1
  have hb := C.1.2.1
  have h1 := hB.nb
  refine lv_aload_n hx hb d_M_isValid_0 rfl (lv_at hl 0 rfl) ?_
  refine m_getr C hI 2 (by decide) k_fl_M_7 rfl 1 rfl d_M_isValid_1 ?_
  refine lv_iload_n hx hb d_M_isValid_4 rfl (lv_at hl 1 rfl) ?_
  refine m_ald C hI 0 (by omega) (i := q) (show q < 48 by omega) (hR.sc _ hq) d_M_isValid_5 ?_
  refine lv_iconst (v := -1) hx hb d_M_isValid_6 (by decide) ?_
  by_cases hp : prg F q = true
  · rw [if_pos hp]
    have hs1 := hB.sc q hq hp
    refine lv_icmp_eq (tgt := 28) hx hb d_M_isValid_7 (by decide) (fun k1 => ?_) (fun k1 => ?_)
    · exact absurd k1 (nI_nem1 (by omega))
    · refine lv_aload_n hx hb d_M_isValid_10 rfl (lv_at hl 0 rfl) ?_
      refine lv_aload_n hx hb d_M_isValid_11 rfl (lv_at hl 0 rfl) ?_
      refine m_getr C hI 2 (by decide) k_fl_M_7 rfl 1 rfl d_M_isValid_12 ?_
      refine lv_iload_n hx hb d_M_isValid_15 rfl (lv_at hl 1 rfl) ?_
      refine m_ald C hI 0 (by omega) (i := q) (show q < 48 by omega) (by rw [hR.sc _ hq, if_pos hp]) d_M_isValid_16 ?_
      refine mc_ROi C hI (c_M_newest hG hR hB hs1) yv_M_newest k_ml_M_48 rfl (by decide) rfl hl.1 rfl (Nat.le_of_ble_eq_true rfl) d_M_isValid_17 ⟨Nat.le_refl _, Nat.le_refl _⟩ (fun r hp => ?_)
      subst hp
      have hp' : prg F q = true := by assumption
      refine lv_iload_n hx hb d_M_isValid_20 rfl (lv_at hl 1 rfl) ?_
      cases hn : fNew nb F (fSc F q) with
      | none =>
        rw [oI_none]
        refine lv_icmp_ne (tgt := 28) hx hb d_M_isValid_21 (by decide) (fun k2 => ?_) (fun k2 => ?_)
        · refine lv_iconst (v := 0) hx hb d_M_isValid_28 (by decide) ?_
          exact rt_ROz C hr hlk rfl (by unfold vld; simp [hn]; rfl) d_M_isValid_29
        · exact absurd k2.symm (nI_nem1 (by omega))
      | some j =>
        have hj := (bst_lt hn).1
        rw [oI_some]
        refine bn_ne (tgt := 28) C (by omega) (by omega) d_M_isValid_21 (by decide) (fun k2 => ?_) (fun k2 => ?_)
        · refine lv_iconst (v := 0) hx hb d_M_isValid_28 (by decide) ?_
          exact rt_ROz C hr hlk rfl (by unfold vld; rw [hn, show ((some j : Option Nat) == some q) = false by simp [k2], Bool.and_false]; rfl) d_M_isValid_29
        · refine lv_iconst (v := 1) hx hb d_M_isValid_24 (by decide) ?_
          refine lv_goto (tgt := 29) hx hb d_M_isValid_25 (by decide) ?_
          exact rt_ROz C hr hlk rfl (by unfold vld; simp [hn, k2, hp']; rfl) d_M_isValid_29
  · rw [if_neg hp]
    refine lv_icmp_eq (tgt := 28) hx hb d_M_isValid_7 (by decide) (fun k1 => ?_) (fun k1 => ?_)
    · refine lv_iconst (v := 0) hx hb d_M_isValid_28 (by decide) ?_
      exact rt_ROz C hr hlk rfl (by unfold vld; simp [hp]; rfl) d_M_isValid_29
    · exact absurd rfl k1
theorem c_M_validIn (hG : Geo ad 9) (hR : RM nb sp F S) (hB : WB nb sp F) {b : Nat} (hb0 : b < nb) : ROi l D cs ad 9 (eM ad cs S) y_M_validIn b_M_validIn 4 (some .int) 2 [.ref (ad 0), .int (nI b)] (fun r => r = nI (fVin nb F b)) := by
  refine MC.intro (by decide) (Nat.le_of_ble_eq_true rfl) ?_
  intro p e s m below meth c C hr hlk hnm hH ls hl
  have hI : In D ad 9 s (eM ad cs S) s.heap [] := ⟨hG, hH, va_S.rf⟩
  have hx := C.1.1
  have hb := C.1.2.1
  have h1 := hB.nb
  refine lv_iconst (v := nI 0) hx hb d_M_validIn_0 (by decide) ?_
  refine lv_istore_n (lv' := [(2, _), (0, _), (1, _)]) hx hb d_M_validIn_1 rfl hl (by decide) rfl (fun ls hl => ?_)
  refine lv_iconst (v := nI 0) hx hb d_M_validIn_2 (by decide) ?_
  refine lv_istore_n (lv' := [(3, _), (2, _), (0, _), (1, _)]) hx hb d_M_validIn_3 rfl hl (by decide) rfl (fun ls hl => ?_)
  refine W_for (N := 4) (fun i => [(0, .ref (ad 0)), (1, .int (nI b)), (2, .int (nI (cnt (fun q => vld nb F (4 * b + q)) i))), (3, .int (nI i))]) ?_ ?_ 0 (by omega) ls (lv_sub hl [2, 3, 1, 0] rfl)
  · intro i hi ih ls hl
    refine lv_iload_n hx hb d_M_validIn_4 rfl (lv_at hl 3 rfl) ?_
    refine lv_iconst (v := nI 4) hx hb d_M_validIn_5 (by decide) ?_
    refine bn_ge (tgt := 35) C (by omega) (by omega) d_M_validIn_6 (by decide) (fun k1 => ?_) (fun k1 => ?_)
    · omega
    · refine lv_iload_n hx hb d_M_validIn_9 rfl (lv_at hl 2 rfl) ?_
      refine lv_aload_n hx hb d_M_validIn_10 rfl (lv_at hl 0 rfl) ?_
      refine lv_iconst (v := nI 4) hx hb d_M_validIn_11 (by decide) ?_
      refine lv_iload_n hx hb d_M_validIn_12 rfl (lv_at hl 1 rfl) ?_
      refine an_mul C d_M_validIn_13 ?_
      refine lv_iload_n hx hb d_M_validIn_14 rfl (lv_at hl 3 rfl) ?_
      refine an_add C d_M_validIn_15 ?_
      refine mc_ROi C hI (c_M_isValid hG hR hB (q := 4 * b + i) (by omega)) yv_M_isValid k_ml_M_52 rfl (by decide) rfl hl.1 rfl (Nat.le_of_ble_eq_true rfl) d_M_validIn_16 ⟨Nat.le_refl _, Nat.le_refl _⟩ (fun r hp => ?_)
      subst hp
      refine bb_eq (tgt := 26) C d_M_validIn_19 (by decide) (fun k2 => ?_) (fun k2 => ?_)
      · refine lv_iconst (v := nI 0) hx hb d_M_validIn_26 (by decide) ?_
        refine an_add C d_M_validIn_27 ?_
        refine lv_istore_n (lv' := [(2, _), (0, _), (1, _), (3, _)]) hx hb d_M_validIn_28 rfl hl (by decide) rfl (fun ls hl => ?_)
        refine lv_iinc (lv' := [(3, _), (2, _), (0, _), (1, _)]) hx hb d_M_validIn_29 hl (k := 3) rfl (nI_inc _) (by decide) rfl (fun ls hl => ?_)
        refine lv_goto (tgt := 4) hx hb d_M_validIn_32 (by decide) ?_
        exact ih ls (lv_sub hl [2, 3, 1, 0] (by rw [cnt_no (f := fun q => vld nb F (4 * b + q)) k2]; rfl))
      · refine lv_iconst (v := nI 1) hx hb d_M_validIn_22 (by decide) ?_
        refine lv_goto (tgt := 27) hx hb d_M_validIn_23 (by decide) ?_
        refine an_add C d_M_validIn_27 ?_
        refine lv_istore_n (lv' := [(2, _), (0, _), (1, _), (3, _)]) hx hb d_M_validIn_28 rfl hl (by decide) rfl (fun ls hl => ?_)
        refine lv_iinc (lv' := [(3, _), (2, _), (0, _), (1, _)]) hx hb d_M_validIn_29 hl (k := 3) rfl (nI_inc _) (by decide) rfl (fun ls hl => ?_)
        refine lv_goto (tgt := 4) hx hb d_M_validIn_32 (by decide) ?_
        exact ih ls (lv_sub hl [2, 3, 1, 0] (by rw [cnt_yes (f := fun q => vld nb F (4 * b + q)) k2]; rfl))
  · intro ls hl
    refine lv_iload_n hx hb d_M_validIn_4 rfl (lv_at hl 3 rfl) ?_
    refine lv_iconst (v := nI 4) hx hb d_M_validIn_5 (by decide) ?_
    refine bn_ge (tgt := 35) C (by omega) (by omega) d_M_validIn_6 (by decide) (fun k1 => ?_) (fun k1 => ?_)
    · refine lv_iload_n hx hb d_M_validIn_35 rfl (lv_at hl 2 rfl) ?_
      exact rt_ROi C hr hlk rfl d_M_validIn_36
    · omega
theorem c_M_freeBlocks (hG : Geo ad 9) (hR : RM nb sp F S) (hB : WB nb sp F) : ROi l D cs ad 9 (eM ad cs S) y_M_freeBlocks b_M_freeBlocks 3 (some .int) 1 [.ref (ad 0)] (fun r => r = nI (fFree nb F)) := by
  refine MC.intro (by decide) (Nat.le_of_ble_eq_true rfl) ?_
  intro p e s m below meth c C hr hlk hnm hH ls hl
  have hI : In D ad 9 s (eM ad cs S) s.heap [] := ⟨hG, hH, va_S.rf⟩
  have hx := C.1.1
  have hb := C.1.2.1
  have h1 := hB.nb
  refine lv_iconst (v := nI 0) hx hb d_M_freeBlocks_0 (by decide) ?_
  refine lv_istore_n (lv' := [(1, _), (0, _)]) hx hb d_M_freeBlocks_1 rfl hl (by decide) rfl (fun ls hl => ?_)
  refine lv_iconst (v := nI 0) hx hb d_M_freeBlocks_2 (by decide) ?_
  refine lv_istore_n (lv' := [(2, _), (1, _), (0, _)]) hx hb d_M_freeBlocks_3 rfl hl (by decide) rfl (fun ls hl => ?_)
  refine W_for (N := nb) (fun i => [(0, .ref (ad 0)), (1, .int (nI (cnt (fun b => fUs F b == 0) i))), (2, .int (nI i))]) ?_ ?_ 0 (by omega) ls (lv_sub hl [2, 1, 0] rfl)
  · intro i hi ih ls hl
    have hu := hB.us i hi
    refine lv_iload_n hx hb d_M_freeBlocks_4 rfl (lv_at hl 2 rfl) ?_
    refine lv_aload_n hx hb d_M_freeBlocks_5 rfl (lv_at hl 0 rfl) ?_
    refine m_geti C hI 0 (by decide) k_fl_M_38 rfl rfl (hR.nb) d_M_freeBlocks_6 ?_
    refine bn_ge (tgt := 34) C (by omega) (by omega) d_M_freeBlocks_9 (by decide) (fun k1 => ?_) (fun k1 => ?_)
    · omega
    · refine lv_iload_n hx hb d_M_freeBlocks_12 rfl (lv_at hl 1 rfl) ?_
      refine lv_aload_n hx hb d_M_freeBlocks_13 rfl (lv_at hl 0 rfl) ?_
      refine lv_iload_n hx hb d_M_freeBlocks_14 rfl (lv_at hl 2 rfl) ?_
      refine mc_ROi C hI (c_M_programmed hG hR hB hi) yv_M_programmed k_ml_M_56 rfl (by decide) rfl hl.1 rfl (Nat.le_of_ble_eq_true rfl) d_M_freeBlocks_15 ⟨Nat.le_refl _, Nat.le_refl _⟩ (fun r hp => ?_)
      subst hp
      refine bz_ne (tgt := 25) C (by omega) d_M_freeBlocks_18 (by decide) (fun k2 => ?_) (fun k2 => ?_)
      · refine lv_iconst (v := nI 0) hx hb d_M_freeBlocks_25 (by decide) ?_
        refine an_add C d_M_freeBlocks_26 ?_
        refine lv_istore_n (lv' := [(1, _), (0, _), (2, _)]) hx hb d_M_freeBlocks_27 rfl hl (by decide) rfl (fun ls hl => ?_)
        refine lv_iinc (lv' := [(2, _), (1, _), (0, _)]) hx hb d_M_freeBlocks_28 hl (k := 2) rfl (nI_inc _) (by decide) rfl (fun ls hl => ?_)
        refine lv_goto (tgt := 4) hx hb d_M_freeBlocks_31 (by decide) ?_
        exact ih ls (lv_sub hl [2, 1, 0] (by rw [cnt_no (by simp; omega)]; rfl))
      · refine lv_iconst (v := nI 1) hx hb d_M_freeBlocks_21 (by decide) ?_
        refine lv_goto (tgt := 26) hx hb d_M_freeBlocks_22 (by decide) ?_
        refine an_add C d_M_freeBlocks_26 ?_
        refine lv_istore_n (lv' := [(1, _), (0, _), (2, _)]) hx hb d_M_freeBlocks_27 rfl hl (by decide) rfl (fun ls hl => ?_)
        refine lv_iinc (lv' := [(2, _), (1, _), (0, _)]) hx hb d_M_freeBlocks_28 hl (k := 2) rfl (nI_inc _) (by decide) rfl (fun ls hl => ?_)
        refine lv_goto (tgt := 4) hx hb d_M_freeBlocks_31 (by decide) ?_
        exact ih ls (lv_sub hl [2, 1, 0] (by rw [cnt_yes (by simp; omega)]; rfl))
  · intro ls hl
    refine lv_iload_n hx hb d_M_freeBlocks_4 rfl (lv_at hl 2 rfl) ?_
    refine lv_aload_n hx hb d_M_freeBlocks_5 rfl (lv_at hl 0 rfl) ?_
    refine m_geti C hI 0 (by decide) k_fl_M_38 rfl rfl (hR.nb) d_M_freeBlocks_6 ?_
    refine bn_ge (tgt := 34) C (by omega) (by omega) d_M_freeBlocks_9 (by decide) (fun k1 => ?_) (fun k1 => ?_)
    · refine lv_iload_n hx hb d_M_freeBlocks_34 rfl (lv_at hl 1 rfl) ?_
      exact rt_ROi C hr hlk rfl d_M_freeBlocks_35
    · omega
theorem fVin_le (nb : Nat) (F : Fl) (b : Nat) : fVin nb F b ≤ 4 := cnt_le _ 4
theorem c_M_pick (hG : Geo ad 9) (hR : RM nb sp F S) (hB : WB nb sp F) {g : Nat} (hg : g ≤ 4) (bv : Bool) : ROi l D cs ad 9 (eM ad cs S) y_M_pick b_M_pick 7 (some .int) 3 [.ref (ad 0), .int (nI g), .int (bI bv)] (fun r => r = oI (fPick nb F g bv)) := by
  refine MC.intro (by decide) (Nat.le_of_ble_eq_true rfl) ?_
  intro p e s m below meth c C hr hlk hnm hH ls hl
  have hI : In D ad 9 s (eM ad cs S) s.heap [] := ⟨hG, hH, va_S.rf⟩
  have hx := C.1.1
  have hb := C.1.2.1
  have h1 := hB.nb
  refine lv_iconst (v := -1) hx hb d_M_pick_0 (by decide) ?_
  refine lv_istore_n (lv' := [(3, _), (0, _), (1, _), (2, _)]) hx hb d_M_pick_1 rfl hl (by decide) rfl (fun ls hl => ?_)
  refine lv_iconst (v := nI 0) hx hb d_M_pick_2 (by decide) ?_
  refine lv_istore (lv' := [(4, _), (3, _), (0, _), (1, _), (2, _)]) hx hb d_M_pick_3 hl (by decide) rfl (fun ls hl => ?_)
  refine lv_iconst (v := nI 0) hx hb d_M_pick_5 (by decide) ?_
  refine lv_istore (lv' := [(5, _), (4, _), (3, _), (0, _), (1, _), (2, _)]) hx hb d_M_pick_6 hl (by decide) rfl (fun ls hl => ?_)
  refine W_for (N := nb) (fun i => [(0, .ref (ad 0)), (1, .int (nI g)), (2, .int (bI bv)), (3, .int (oI (bst (fun b => fUs F b == g) (fun k j => decide (fCost nb F bv k < fCost nb F bv j)) i))), (4, .int (nI (match bst (fun b => fUs F b == g) (fun k j => decide (fCost nb F bv k < fCost nb F bv j)) i with | none => 0 | some j => fCost nb F bv j))), (5, .int (nI i))]) ?_ ?_ 0 (by omega) ls (lv_sub hl [3, 4, 5, 2, 1, 0] rfl)
  · intro i hi ih ls hl
    have hu := hB.us i hi
    have he := hB.er i hi
    have hv := fVin_le nb F i
    refine lv_iload hx hb d_M_pick_8 (lv_at hl 5 rfl) ?_
    refine lv_aload_n hx hb d_M_pick_10 rfl (lv_at hl 0 rfl) ?_
    refine m_geti C hI 0 (by decide) k_fl_M_38 rfl rfl (hR.nb) d_M_pick_11 ?_
    refine bn_ge (tgt := 79) C (by omega) (by omega) d_M_pick_14 (by decide) (fun k1 => ?_) (fun k1 => ?_)
    · omega
    · refine lv_aload_n hx hb d_M_pick_17 rfl (lv_at hl 0 rfl) ?_
      refine m_getr C hI 6 (by decide) k_fl_M_22 rfl 5 rfl d_M_pick_18 ?_
      refine lv_iload hx hb d_M_pick_21 (lv_at hl 5 rfl) ?_
      refine m_ald C hI 4 (by omega) (i := i) (show i < 12 by omega) (hR.er _ hi) d_M_pick_23 ?_
      refine lv_iload_n hx hb d_M_pick_24 rfl (lv_at hl 2 rfl) ?_
      refine W_at (g2 := F0 m 42 ls [.int (nI (fCost nb F bv i))]) ?_ (fun J => ?_)
      · refine lv_istore (lv' := [(6, _), (0, _), (1, _), (2, _), (3, _), (4, _), (5, _)]) hx hb d_M_pick_42 hl (by decide) rfl (fun ls hl => ?_)
        refine lv_aload_n hx hb d_M_pick_44 rfl (lv_at hl 1 rfl) ?_
        refine lv_iload hx hb d_M_pick_45 (lv_at hl 6 rfl) ?_
        refine mc_ROi C hI (c_M_programmed hG hR hB hi) yv_M_programmed k_ml_M_56 rfl (by decide) rfl hl.1 rfl (Nat.le_of_ble_eq_true rfl) d_M_pick_47 ⟨Nat.le_refl _, Nat.le_refl _⟩ (fun r hp => ?_)
        subst hp
        refine lv_iload_n hx hb d_M_pick_50 rfl (lv_at hl 2 rfl) ?_
        have hc : fCost nb F bv i < 600000 := by unfold fCost; split <;> omega
        refine bn_ne (tgt := 73) C (by omega) (by omega) d_M_pick_51 (by decide) (fun k2 => ?_) (fun k2 => ?_)
        · refine lv_iinc (lv' := [(5, _), (6, _), (0, _), (1, _), (2, _), (3, _), (4, _)]) hx hb d_M_pick_73 hl (k := 6) rfl (nI_inc _) (by decide) rfl (fun ls hl => ?_)
          refine lv_goto (tgt := 8) hx hb d_M_pick_76 (by decide) ?_
          exact ih ls (lv_sub hl [2, 3, 4, 5, 6, 0] (by rw [bst_no (by simp [k2])]; rfl))
        · have hok : (fUs F i == g) = true := by simp [k2]
          refine lv_iload_n hx hb d_M_pick_54 rfl (lv_at hl 4 rfl) ?_
          refine lv_iconst (v := -1) hx hb d_M_pick_55 (by decide) ?_
          refine bo_eq (tgt := 66) C (fun j hj => by have := (bst_lt hj).1; omega) d_M_pick_56 (by decide) (fun k3 => ?_) (fun j56 k3 => ?_)
          · refine lv_iload hx hb d_M_pick_66 (lv_at hl 6 rfl) ?_
            refine lv_istore_n (lv' := [(3, _), (6, _), (0, _), (1, _), (2, _), (4, _), (5, _)]) hx hb d_M_pick_68 rfl hl (by decide) rfl (fun ls hl => ?_)
            refine lv_iload hx hb d_M_pick_69 (lv_at hl 1 rfl) ?_
            refine lv_istore (lv' := [(4, _), (3, _), (6, _), (0, _), (1, _), (2, _), (5, _)]) hx hb d_M_pick_71 hl (by decide) rfl (fun ls hl => ?_)
            refine lv_iinc (lv' := [(5, _), (4, _), (3, _), (6, _), (0, _), (1, _), (2, _)]) hx hb d_M_pick_73 hl (k := 6) rfl (nI_inc _) (by decide) rfl (fun ls hl => ?_)
            refine lv_goto (tgt := 8) hx hb d_M_pick_76 (by decide) ?_
            exact ih ls (lv_sub hl [4, 5, 6, 2, 1, 0] (by rw [bst_first (ok := fun b => fUs F b == g) hok k3]; rfl))
          · have hj := (bst_lt k3).1
            have he2 := hB.er j56 (by omega)
            have hv2 := fVin_le nb F j56
            have hc2 : fCost nb F bv j56 < 600000 := by unfold fCost; split <;> omega
            refine lv_iload hx hb d_M_pick_59 (lv_at hl 0 rfl) ?_
            refine lv_iload (x := nI (fCost nb F bv j56)) hx hb d_M_pick_61 (by have h := lv_at hl (5 : Nat) rfl; rw [k3] at h; exact h) ?_
            refine bn_ge (tgt := 73) C (by omega) (by omega) d_M_pick_63 (by decide) (fun k4 => ?_) (fun k4 => ?_)
            · refine lv_iinc (lv' := [(5, _), (6, _), (0, _), (1, _), (2, _), (3, _), (4, _)]) hx hb d_M_pick_73 hl (k := 6) rfl (nI_inc _) (by decide) rfl (fun ls hl => ?_)
              refine lv_goto (tgt := 8) hx hb d_M_pick_76 (by decide) ?_
              exact ih ls (lv_sub hl [2, 3, 4, 5, 6, 0] (by rw [bst_keep k3 (by simp; omega), k3]; rfl))
            · refine lv_iload hx hb d_M_pick_66 (lv_at hl 6 rfl) ?_
              refine lv_istore_n (lv' := [(3, _), (6, _), (0, _), (1, _), (2, _), (4, _), (5, _)]) hx hb d_M_pick_68 rfl hl (by decide) rfl (fun ls hl => ?_)
              refine lv_iload hx hb d_M_pick_69 (lv_at hl 1 rfl) ?_
              refine lv_istore (lv' := [(4, _), (3, _), (6, _), (0, _), (1, _), (2, _), (5, _)]) hx hb d_M_pick_71 hl (by decide) rfl (fun ls hl => ?_)
              refine lv_iinc (lv' := [(5, _), (4, _), (3, _), (6, _), (0, _), (1, _), (2, _)]) hx hb d_M_pick_73 hl (k := 6) rfl (nI_inc _) (by decide) rfl (fun ls hl => ?_)
              refine lv_goto (tgt := 8) hx hb d_M_pick_76 (by decide) ?_
              exact ih ls (lv_sub hl [4, 5, 6, 2, 1, 0] (by rw [bst_take (ok := fun b => fUs F b == g) hok k3 (by simp; omega)]; rfl))
      · refine bb_eq (tgt := 40) C d_M_pick_25 (by decide) (fun k2 => ?_) (fun k2 => ?_)
        · refine lv_iconst (v := nI 0) hx hb d_M_pick_40 (by decide) ?_
          refine an_add C d_M_pick_41 ?_
          refine W.eq ?_ J
          unfold fCost; rw [k2]; rfl
        · refine lv_ldc hx hb C.1.2.2.2.1 (C.2.1.hts _ _ k_co_M_59) d_M_pick_28 ?_
          refine top_i (y := nI 100000) (by decide) ?_
          refine lv_aload_n hx hb d_M_pick_30 rfl (lv_at hl 0 rfl) ?_
          refine lv_iload hx hb d_M_pick_31 (lv_at hl 5 rfl) ?_
          refine mc_ROi C hI (c_M_validIn hG hR hB hi) yv_M_validIn k_ml_M_60 rfl (by decide) rfl hl.1 rfl (Nat.le_of_ble_eq_true rfl) d_M_pick_33 ⟨Nat.le_refl _, Nat.le_refl _⟩ (fun r hp => ?_)
          subst hp
          refine an_mul C d_M_pick_36 ?_
          refine lv_goto (tgt := 41) hx hb d_M_pick_37 (by decide) ?_
          refine an_add C d_M_pick_41 ?_
          refine W.eq ?_ J
          unfold fCost; rw [k2]; rfl
  · intro ls hl
    refine lv_iload hx hb d_M_pick_8 (lv_at hl 5 rfl) ?_
    refine lv_aload_n hx hb d_M_pick_10 rfl (lv_at hl 0 rfl) ?_
    refine m_geti C hI 0 (by decide) k_fl_M_38 rfl rfl (hR.nb) d_M_pick_11 ?_
    refine bn_ge (tgt := 79) C (by omega) (by omega) d_M_pick_14 (by decide) (fun k1 => ?_) (fun k1 => ?_)
    · refine lv_iload_n hx hb d_M_pick_79 rfl (lv_at hl 3 rfl) ?_
      exact rt_ROi C hr hlk rfl d_M_pick_80
    · omega
theorem mnE_le (F : Fl) : ∀ k, mnE F k ≤ mxE F k
  | 0 => Nat.le_refl _
  | k + 1 => by
    have := mnE_le F k
    unfold mnE mxE
    split <;> split <;> omega
theorem mxE_le {n : Nat} {F : Fl} {B : Nat} (h : ∀ b, b < n → fEr F b ≤ B) : ∀ k, k < n → mxE F k ≤ B
  | 0, hk => h 0 hk
  | k + 1, hk => by
    have := mxE_le h k (by omega)
    have := h (k + 1) hk
    unfold mxE
    split <;> omega
theorem c_M_uneven (hG : Geo ad 9) (hR : RM nb sp F S) (hB : WB nb sp F) : ROi l D cs ad 9 (eM ad cs S) y_M_uneven b_M_uneven 4 (some .boolean) 0 [.ref (ad 0)] (fun r => r = bI (fWorn nb sp F)) := by
  refine MC.intro (by decide) (Nat.le_of_ble_eq_true rfl) ?_
  intro p e s m below meth c C hr hlk hnm hH ls hl
  have hI : In D ad 9 s (eM ad cs S) s.heap [] := ⟨hG, hH, va_S.rf⟩
  have hx := C.1.1
  have hb := C.1.2.1
  have h1 := hB.nb
  have h2 := hB.sp
  refine lv_aload_n hx hb d_M_uneven_0 rfl (lv_at hl 0 rfl) ?_
  refine m_getr C hI 6 (by decide) k_fl_M_22 rfl 5 rfl d_M_uneven_1 ?_
  refine lv_iconst (v := nI 0) hx hb d_M_uneven_4 (by decide) ?_
  refine m_ald C hI 4 (by omega) (i := 0) (show 0 < 12 by omega) (hR.er _ (by omega)) d_M_uneven_5 ?_
  refine lv_istore_n (lv' := [(1, _), (0, _)]) hx hb d_M_uneven_6 rfl hl (by decide) rfl (fun ls hl => ?_)
  refine lv_aload_n hx hb d_M_uneven_7 rfl (lv_at hl 1 rfl) ?_
  refine m_getr C hI 6 (by decide) k_fl_M_22 rfl 5 rfl d_M_uneven_8 ?_
  refine lv_iconst (v := nI 0) hx hb d_M_uneven_11 (by decide) ?_
  refine m_ald C hI 4 (by omega) (i := 0) (show 0 < 12 by omega) (hR.er _ (by omega)) d_M_uneven_12 ?_
  refine lv_istore_n (lv' := [(2, _), (1, _), (0, _)]) hx hb d_M_uneven_13 rfl hl (by decide) rfl (fun ls hl => ?_)
  refine lv_iconst (v := nI 1) hx hb d_M_uneven_14 (by decide) ?_
  refine lv_istore_n (lv' := [(3, _), (2, _), (1, _), (0, _)]) hx hb d_M_uneven_15 rfl hl (by decide) rfl (fun ls hl => ?_)
  refine W_for (N := nb - 1) (fun i => [(0, .ref (ad 0)), (1, .int (nI (mxE F i))), (2, .int (nI (mnE F i))), (3, .int (nI (i + 1)))]) ?_ ?_ 0 (by omega) ls (lv_sub hl [3, 2, 1, 0] rfl)
  · intro i hi ih ls hl
    have he := hB.er (i + 1) (by omega)
    have hm := mxE_le hB.er i (by omega)
    have hn := mnE_le F i
    refine lv_iload_n hx hb d_M_uneven_16 rfl (lv_at hl 3 rfl) ?_
    refine lv_aload_n hx hb d_M_uneven_17 rfl (lv_at hl 0 rfl) ?_
    refine m_geti C hI 0 (by decide) k_fl_M_38 rfl rfl (hR.nb) d_M_uneven_18 ?_
    refine bn_ge (tgt := 72) C (by omega) (by omega) d_M_uneven_21 (by decide) (fun k1 => ?_) (fun k1 => ?_)
    · omega
    · refine lv_aload_n hx hb d_M_uneven_24 rfl (lv_at hl 0 rfl) ?_
      refine m_getr C hI 6 (by decide) k_fl_M_22 rfl 5 rfl d_M_uneven_25 ?_
      refine lv_iload_n hx hb d_M_uneven_28 rfl (lv_at hl 3 rfl) ?_
      refine m_ald C hI 4 (by omega) (i := i + 1) (show i + 1 < 12 by omega) (hR.er _ (by omega)) d_M_uneven_29 ?_
      refine lv_iload_n hx hb d_M_uneven_30 rfl (lv_at hl 1 rfl) ?_
      refine W_at (g2 := F0 m 44 ls [.int (nI (mxE F (i + 1)))]) ?_ (fun J => ?_)
      · refine lv_istore_n (lv' := [(1, _), (0, _), (2, _), (3, _)]) hx hb d_M_uneven_44 rfl hl (by decide) rfl (fun ls hl => ?_)
        refine lv_aload_n hx hb d_M_uneven_45 rfl (lv_at hl 1 rfl) ?_
        refine m_getr C hI 6 (by decide) k_fl_M_22 rfl 5 rfl d_M_uneven_46 ?_
        refine lv_iload_n hx hb d_M_uneven_49 rfl (lv_at hl 3 rfl) ?_
        refine m_ald C hI 4 (by omega) (i := i + 1) (show i + 1 < 12 by omega) (hR.er _ (by omega)) d_M_uneven_50 ?_
        refine lv_iload_n hx hb d_M_uneven_51 rfl (lv_at hl 2 rfl) ?_
        refine W_at (g2 := F0 m 65 ls [.int (nI (mnE F (i + 1)))]) ?_ (fun J => ?_)
        · refine lv_istore_n (lv' := [(2, _), (1, _), (0, _), (3, _)]) hx hb d_M_uneven_65 rfl hl (by decide) rfl (fun ls hl => ?_)
          refine lv_iinc (lv' := [(3, _), (2, _), (1, _), (0, _)]) hx hb d_M_uneven_66 hl (k := 3) rfl (nI_inc _) (by decide) rfl (fun ls hl => ?_)
          refine lv_goto (tgt := 16) hx hb d_M_uneven_69 (by decide) ?_
          exact ih ls (lv_sub hl [3, 2, 1, 0] rfl)
        · refine bn_ge (tgt := 64) C (by omega) (by omega) d_M_uneven_52 (by decide) (fun k2 => ?_) (fun k2 => ?_)
          · refine lv_iload_n hx hb d_M_uneven_64 rfl (lv_at hl 2 rfl) ?_
            refine W.eq ?_ J
            rw [mnE, if_neg (by omega)]
          · refine lv_aload_n hx hb d_M_uneven_55 rfl (lv_at hl 1 rfl) ?_
            refine m_getr C hI 6 (by decide) k_fl_M_22 rfl 5 rfl d_M_uneven_56 ?_
            refine lv_iload_n hx hb d_M_uneven_59 rfl (lv_at hl 3 rfl) ?_
            refine m_ald C hI 4 (by omega) (i := i + 1) (show i + 1 < 12 by omega) (hR.er _ (by omega)) d_M_uneven_60 ?_
            refine lv_goto (tgt := 65) hx hb d_M_uneven_61 (by decide) ?_
            refine W.eq ?_ J
            rw [mnE, if_pos (by omega)]
      · refine bn_le (tgt := 43) C (by omega) (by omega) d_M_uneven_31 (by decide) (fun k2 => ?_) (fun k2 => ?_)
        · refine lv_iload_n hx hb d_M_uneven_43 rfl (lv_at hl 1 rfl) ?_
          refine W.eq ?_ J
          rw [mxE, if_neg (by omega)]
        · refine lv_aload_n hx hb d_M_uneven_34 rfl (lv_at hl 0 rfl) ?_
          refine m_getr C hI 6 (by decide) k_fl_M_22 rfl 5 rfl d_M_uneven_35 ?_
          refine lv_iload_n hx hb d_M_uneven_38 rfl (lv_at hl 3 rfl) ?_
          refine m_ald C hI 4 (by omega) (i := i + 1) (show i + 1 < 12 by omega) (hR.er _ (by omega)) d_M_uneven_39 ?_
          refine lv_goto (tgt := 44) hx hb d_M_uneven_40 (by decide) ?_
          refine W.eq ?_ J
          rw [mxE, if_pos (by omega)]
  · intro ls hl
    have hm := mxE_le hB.er (nb - 1) (by omega)
    have hn := mnE_le F (nb - 1)
    refine lv_iload_n hx hb d_M_uneven_16 rfl (lv_at hl 3 rfl) ?_
    refine lv_aload_n hx hb d_M_uneven_17 rfl (lv_at hl 0 rfl) ?_
    refine m_geti C hI 0 (by decide) k_fl_M_38 rfl rfl (hR.nb) d_M_uneven_18 ?_
    refine bn_ge (tgt := 72) C (by omega) (by omega) d_M_uneven_21 (by decide) (fun k1 => ?_) (fun k1 => ?_)
    · refine lv_iload_n hx hb d_M_uneven_72 rfl (lv_at hl 1 rfl) ?_
      refine lv_iload_n hx hb d_M_uneven_73 rfl (lv_at hl 2 rfl) ?_
      refine an_sub C (by omega) d_M_uneven_74 ?_
      refine lv_aload_n hx hb d_M_uneven_75 rfl (lv_at hl 0 rfl) ?_
      refine m_geti C hI 1 (by decide) k_fl_M_41 rfl rfl (hR.sp) d_M_uneven_76 ?_
      refine bn_le (tgt := 86) C (by omega) (by omega) d_M_uneven_79 (by decide) (fun k2 => ?_) (fun k2 => ?_)
      · refine lv_iconst (v := 0) hx hb d_M_uneven_86 (by decide) ?_
        exact rt_ROz C hr hlk rfl (by rw [fWorn, decide_eq_false (by omega)]; rfl) d_M_uneven_87
      · refine lv_iconst (v := 1) hx hb d_M_uneven_82 (by decide) ?_
        refine lv_goto (tgt := 87) hx hb d_M_uneven_83 (by decide) ?_
        exact rt_ROz C hr hlk rfl (by rw [fWorn, decide_eq_true (by omega)]; rfl) d_M_uneven_87
    · omega
end MR
end
section
/-! WHAT THE METHODS DO to the flash; and what each walk needs on its way (..OK) -/
def fBlow (F : Fl) : Fl := mkF (fUs F) (fEr F) (fSc F) (fVl F) (fSr F) (fTr F) (fNx F) (fOp F) (fOs F) 0 (fBf F)
def fOper (F : Fl) : Fl := mkF (fUs F) (fEr F) (fSc F) (fVl F) (fSr F) (fTr F) (fNx F) (fOp F) (fOs F + 1) (fFu F - 1) (fBf F)
def fSetOp (F : Fl) (o : Option Nat) : Fl := mkF (fUs F) (fEr F) (fSc F) (fVl F) (fSr F) (fTr F) (fNx F) o (fOs F) (fFu F) (fBf F)
def fSetFu (F : Fl) (n : Nat) : Fl := mkF (fUs F) (fEr F) (fSc F) (fVl F) (fSr F) (fTr F) (fNx F) (fOp F) (fOs F) n (fBf F)
def fSetBf (F : Fl) (l : List (Nat × Int32 × Bool)) : Fl := mkF (fUs F) (fEr F) (fSc F) (fVl F) (fSr F) (fTr F) (fNx F) (fOp F) (fOs F) (fFu F) l
def fOb (F : Fl) : Nat := (fOp F).getD 0
/-- the next page of the open block -/
def fNp (F : Fl) : Nat := 4 * fOb F + fUs F (fOb F)
def fProg (F : Fl) (s : Nat) (v : Int32) (t : Bool) : Fl := mkF (va_up (fUs F) (fOb F) (fUs F (fOb F) + 1)) (fEr F) (va_up (fSc F) (fNp F) s) (va_up (fVl F) (fNp F) v) (va_up (fSr F) (fNp F) (fNx F)) (va_up (fTr F) (fNp F) t) (fNx F + 1) (fOp F) (fOs F) (fFu F) (fBf F)
def fErase (F : Fl) (b : Nat) : Fl := mkF (va_up (fUs F) b 0) (va_up (fEr F) b (fEr F b + 1)) (fSc F) (fVl F) (fSr F) (fTr F) (fNx F) (fOp F) (fOs F) (fFu F) (fBf F)
def sOper (F : Fl) : Bool × Fl := if fFu F = 1 then (false, fBlow F) else (true, fOper F)
def sProg (F : Fl) (s : Nat) (v : Int32) (t : Bool) : Bool × Fl := if fFu F = 1 then (false, fBlow F) else (true, fProg (fOper F) s v t)
/-- the first i pages of the block v are copied, as far as they are valid -/
def cpF (nb v : Nat) (F : Fl) : Nat → Bool × Fl
  | 0 => (true, F)
  | i + 1 => if (cpF nb v F i).1 && vld nb (cpF nb v F i).2 (4 * v + i) then sProg (cpF nb v F i).2 (fSc (cpF nb v F i).2 (4 * v + i)) (fVl (cpF nb v F i).2 (4 * v + i)) (fTr (cpF nb v F i).2 (4 * v + i)) else cpF nb v F i
def sColl (nb : Nat) (F : Fl) (v : Nat) : Bool × Fl := if (cpF nb v F 4).1 then (if fFu (cpF nb v F 4).2 = 1 then (false, fBlow (cpF nb v F 4).2) else (true, fErase (fOper (cpF nb v F 4).2) v)) else cpF nb v F 4
def CollOK (nb sp : Nat) (F : Fl) (v : Nat) : Prop := v < nb ∧ ∀ i, i ≤ 4 → (cpF nb v F i).1 = true → WB nb sp (cpF nb v F i).2 ∧ (i < 4 → vld nb (cpF nb v F i).2 (4 * v + i) = true → ∃ b, fOp (cpF nb v F i).2 = some b ∧ fUs (cpF nb v F i).2 b < 4)
def noRoom (F : Fl) : Bool := match fOp F with
  | none => true
  | some b => fUs F b == 4
def sProv (nb sp : Nat) : Nat → Bool → Fl → Bool × Fl
  | 0, _, F => (true, F)
  | n + 1, lev, F => if noRoom F then
      (if fFree nb F < 2 then
        (if (sColl nb (fSetOp F (fPick nb F 0 false)) ((fPick nb (fSetOp F (fPick nb F 0 false)) 4 (!(!lev && fWorn nb sp F))).getD 0)).1 then sProv nb sp n (lev || (!lev && fWorn nb sp F)) (sColl nb (fSetOp F (fPick nb F 0 false)) ((fPick nb (fSetOp F (fPick nb F 0 false)) 4 (!(!lev && fWorn nb sp F))).getD 0)).2
         else sColl nb (fSetOp F (fPick nb F 0 false)) ((fPick nb (fSetOp F (fPick nb F 0 false)) 4 (!(!lev && fWorn nb sp F))).getD 0))
       else sProv nb sp n lev (fSetOp F (fPick nb F 0 false)))
    else (true, F)
def ProvOK (nb sp : Nat) : Nat → Bool → Fl → Prop
  | 0, _, _ => False
  | n + 1, lev, F => WB nb sp F ∧ (noRoom F = true → WB nb sp (fSetOp F (fPick nb F 0 false)) ∧ (fPick nb F 0 false).isSome = true ∧
      (fFree nb F < 2 → (fPick nb (fSetOp F (fPick nb F 0 false)) 4 (!(!lev && fWorn nb sp F))).isSome = true ∧ CollOK nb sp (fSetOp F (fPick nb F 0 false)) ((fPick nb (fSetOp F (fPick nb F 0 false)) 4 (!(!lev && fWorn nb sp F))).getD 0) ∧
        ((sColl nb (fSetOp F (fPick nb F 0 false)) ((fPick nb (fSetOp F (fPick nb F 0 false)) 4 (!(!lev && fWorn nb sp F))).getD 0)).1 = true → ProvOK nb sp n (lev || (!lev && fWorn nb sp F)) (sColl nb (fSetOp F (fPick nb F 0 false)) ((fPick nb (fSetOp F (fPick nb F 0 false)) 4 (!(!lev && fWorn nb sp F))).getD 0)).2)) ∧
      (¬ fFree nb F < 2 → ProvOK nb sp n lev (fSetOp F (fPick nb F 0 false))))
def hdB (l : List (Nat × Int32 × Bool)) : Nat × Int32 × Bool := l.headD (0, 0, false)
def sStore (nb sp : Nat) (F : Fl) : Bool × Fl := if (sProv nb sp 3 false F).1 then
    (if (sProg (sProv nb sp 3 false F).2 (hdB (fBf F)).1 (hdB (fBf F)).2.1 (hdB (fBf F)).2.2).1 then (true, fSetBf (sProg (sProv nb sp 3 false F).2 (hdB (fBf F)).1 (hdB (fBf F)).2.1 (hdB (fBf F)).2.2).2 (fBf F).tail) else sProg (sProv nb sp 3 false F).2 (hdB (fBf F)).1 (hdB (fBf F)).2.1 (hdB (fBf F)).2.2)
  else sProv nb sp 3 false F
def StoreOK (nb sp : Nat) (F : Fl) : Prop := fBf F ≠ [] ∧ ProvOK nb sp 3 false F ∧ ((sProv nb sp 3 false F).1 = true → WB nb sp (sProv nb sp 3 false F).2 ∧ fBf (sProv nb sp 3 false F).2 = fBf F ∧ ∃ b, fOp (sProv nb sp 3 false F).2 = some b ∧ fUs (sProv nb sp 3 false F).2 b < 4)
def lstP (F : Fl) : Nat → Option Nat
  | 0 => none
  | k + 1 => if 0 < fUs F k ∧ fUs F k < 4 then some k else lstP F k
def nxM (F : Fl) : Nat → Nat
  | 0 => 0
  | k + 1 => if prg F k = true ∧ nxM F k ≤ fSr F k then fSr F k + 1 else nxM F k
def sReb (nb : Nat) (F : Fl) : Fl := mkF (fUs F) (fEr F) (fSc F) (fVl F) (fSr F) (fTr F) (nxM F (4 * nb)) (lstP F nb) (fOs F) (fFu F) []
def sLost (nb : Nat) (F : Fl) : Fl := if fFree nb (sReb nb F) = 0 then (sColl nb (sReb nb F) ((fPick nb (sReb nb F) 4 true).getD 0)).2 else sReb nb F
def LostOK (nb sp : Nat) (F : Fl) : Prop := WB nb sp F ∧ WB nb sp (sReb nb F) ∧ (fFree nb (sReb nb F) = 0 → (fPick nb (sReb nb F) 4 true).isSome = true ∧ CollOK nb sp (sReb nb F) ((fPick nb (sReb nb F) 4 true).getD 0) ∧ (sColl nb (sReb nb F) ((fPick nb (sReb nb F) 4 true).getD 0)).1 = true)
def bfI (l : List (Nat × Int32 × Bool)) (s : Nat) : Option Nat := l.findIdx? (fun e => e.1 == s)
def sPut (nb sp : Nat) (F : Fl) (s : Nat) (v : Int32) (t : Bool) : Nat × Fl := match bfI (fBf F) s with
  | some k => (0, fSetBf F ((fBf F).set k (s, v, t)))
  | none => if (fBf F).length = 3 then (if (sStore nb sp F).1 then (0, fSetBf (sStore nb sp F).2 (fBf (sStore nb sp F).2 ++ [(s, v, t)])) else (1, sLost nb (sStore nb sp F).2)) else (0, fSetBf F (fBf F ++ [(s, v, t)]))
def PutOK (nb sp : Nat) (F : Fl) (s : Nat) : Prop := WB nb sp F ∧ (bfI (fBf F) s = none → (fBf F).length = 3 → StoreOK nb sp F ∧ ((sStore nb sp F).1 = true → WB nb sp (sStore nb sp F).2 ∧ fBf (sStore nb sp F).2 = (fBf F).tail) ∧ ((sStore nb sp F).1 = false → LostOK nb sp (sStore nb sp F).2))
def sFlush (nb sp : Nat) : Nat → Fl → Nat × Fl
  | 0, F => (0, F)
  | n + 1, F => if (sStore nb sp F).1 then sFlush nb sp n (sStore nb sp F).2 else (1, sLost nb (sStore nb sp F).2)
def FlushOK (nb sp : Nat) : Nat → Fl → Prop
  | 0, F => WB nb sp F ∧ fBf F = []
  | n + 1, F => WB nb sp F ∧ (fBf F).length = n + 1 ∧ StoreOK nb sp F ∧ ((sStore nb sp F).1 = true → FlushOK nb sp n (sStore nb sp F).2) ∧ ((sStore nb sp F).1 = false → LostOK nb sp (sStore nb sp F).2)
/-! the twin's picture under the changes -/
abbrev up2 (f : Nat → Nat → Int32) (k i : Nat) (x : Int32) : Nat → Nat → Int32 := va_up f k (va_up (f k) i x)
theorem RM.blow {nb sp : Nat} {F : Fl} {S : SM} (h : RM nb sp F S) (g : Int32) : RM nb sp (fBlow F) (va_up (va_up S.1 10 (nI 0)) 11 g, S.2) :=
  ⟨h.nb, h.sp, h.nx, h.op, h.os, rfl, h.bl, h.sc, h.pg, h.er, h.bf⟩
theorem RM.oper {nb sp : Nat} {F : Fl} {S : SM} (h : RM nb sp F S) : RM nb sp (fOper F) (va_up (va_up S.1 10 (nI (fFu F - 1))) 9 (nI (fOs F + 1)), S.2) :=
  ⟨h.nb, h.sp, h.nx, h.op, rfl, rfl, h.bl, h.sc, h.pg, h.er, h.bf⟩
theorem fNp_dm (F : Fl) (h : fUs F (fOb F) < 4) : fNp F / 4 = fOb F ∧ fNp F % 4 = fUs F (fOb F) := by unfold fNp; omega
theorem prg_prog {F : Fl} {s : Nat} {v : Int32} {t : Bool} (h : fUs F (fOb F) < 4) (q : Nat) : prg (fProg F s v t) q = (decide (q = fNp F) || prg F q) := by
  have h1 := fNp_dm F h
  have e : fUs (fProg F s v t) = va_up (fUs F) (fOb F) (fUs F (fOb F) + 1) := rfl
  unfold prg
  rw [e]
  by_cases hq : q / 4 = fOb F
  · rw [hq, va_up_self]
    by_cases h2 : q = fNp F
    · subst h2
      simp [h1.2]
    · have : q % 4 ≠ fUs F (fOb F) := by unfold fNp at h2; omega
      simp [h2]
      omega
  · rw [va_up_ne _ _ hq]
    have : q ≠ fNp F := by intro z; subst z; exact hq h1.1
    simp [this]
theorem prg_np {F : Fl} (h : fUs F (fOb F) < 4) : prg F (fNp F) = false := by
  have h1 := fNp_dm F h
  unfold prg
  rw [h1.1, h1.2]
  simp
theorem RM.prog {nb sp : Nat} {F : Fl} {S : SM} (h : RM nb sp F S) (hu : fUs F (fOb F) < 4) (s : Nat) (v : Int32) (t : Bool) : RM nb sp (fProg F s v t) (va_up S.1 7 (nI (fNx F + 1)), up2 (up2 (up2 (up2 S.2 0 (fNp F) (nI s)) 1 (fNp F) v) 3 (fNp F) (sI t)) 2 (fNp F) (nI (fNx F))) := by
  refine ⟨h.nb, h.sp, rfl, h.op, h.os, h.fu, h.bl, fun q hq => ?_, fun q hq hp => ?_, h.er, h.bf⟩
  · show va_up (S.2 0) (fNp F) (nI s) q = if prg (fProg F s v t) q then nI (va_up (fSc F) (fNp F) s q) else -1
    rw [prg_prog hu]
    by_cases e : q = fNp F
    · subst e; simp [va_up]
    · rw [va_up_ne _ _ e, va_up_ne _ _ e, h.sc q hq]
      simp [e]
  · rw [prg_prog hu] at hp
    show va_up (S.2 1) (fNp F) v q = va_up (fVl F) (fNp F) v q ∧ va_up (S.2 2) (fNp F) (nI (fNx F)) q = nI (va_up (fSr F) (fNp F) (fNx F) q) ∧ va_up (S.2 3) (fNp F) (sI t) q = sI (va_up (fTr F) (fNp F) t q)
    by_cases e : q = fNp F
    · subst e; simp [va_up]
    · simp only [e, decide_false, Bool.false_or] at hp
      rw [va_up_ne _ _ e, va_up_ne _ _ e, va_up_ne _ _ e, va_up_ne _ _ e, va_up_ne _ _ e, va_up_ne _ _ e]
      exact h.pg q hq hp
end
section
/-! THE TWIN: methods that write -/
section MW
variable {l : Launch} {D : va_G} {cs : Nat → ClassId} {ad : Nat → Nat} {nb sp : Nat} {F : Fl} {S : SM}
theorem c_M_operates (hG : Geo ad 9) (hR : RM nb sp F S) (hB : WB nb sp F) : RWi l D cs ad 9 (eM ad cs) y_M_operates b_M_operates 1 (some .boolean) 0 [.ref (ad 0)] S (fun r u => r = bI (sOper F).1 ∧ RM nb sp (sOper F).2 u) := by
  refine MC.intro (by decide) (Nat.le_of_ble_eq_true rfl) ?_
  intro p e s m below meth c C hr hlk hnm hH ls hl
  have hI : In D ad 9 s (eM ad cs S) s.heap [] := ⟨hG, hH, va_S.rf⟩
  have hx := C.1.1
  have hb := C.1.2.1
  have h1 := hB.fu
  refine lv_aload_n hx hb d_M_operates_0 rfl (lv_at hl 0 rfl) ?_
  refine m_geti C hI 10 (by decide) k_fl_M_63 rfl rfl (hR.fu) d_M_operates_1 ?_
  refine lv_iconst (v := nI 1) hx hb d_M_operates_4 (by decide) ?_
  refine bn_ne (tgt := 20) C (by omega) (by omega) d_M_operates_5 (by decide) (fun k1 => ?_) (fun k1 => ?_)
  · refine lv_aload_n hx hb d_M_operates_20 rfl (lv_at hl 0 rfl) ?_
    refine lv_aload_n hx hb d_M_operates_21 rfl (lv_at hl 0 rfl) ?_
    refine m_geti C hI 10 (by decide) k_fl_M_63 rfl rfl (hR.fu) d_M_operates_22 ?_
    refine W_at (g2 := F0 m 38 ls [.int (nI (fFu F - 1)), .ref (ad 0)]) ?_ (fun J => ?_)
    · refine m_puti C hI 10 (by omega) k_fl_M_63 rfl rfl rfl rfl d_M_operates_38 (fun H locs MI hMI hI => ?_)
      refine lv_aload_n hx hb d_M_operates_41 rfl (lv_at hl 0 rfl) ?_
      refine lv_dup hx hb d_M_operates_42 rfl ?_
      refine m_geti C hI 9 (by decide) k_fl_M_70 rfl rfl (show MI 9 = nI (fOs F) by rw [hMI]; exact hR.os) d_M_operates_43 ?_
      refine lv_iconst (v := nI 1) hx hb d_M_operates_46 (by decide) ?_
      refine an_add C d_M_operates_47 ?_
      refine m_puti C hI 9 (by omega) k_fl_M_70 rfl rfl rfl rfl d_M_operates_48 (fun H locs MJ hMJ hI => ?_)
      refine lv_iconst (v := 1) hx hb d_M_operates_51 (by decide) ?_
      subst hMI hMJ
      exact rt_RWz C hI hr hlk rfl ⟨by rw [sOper, if_neg k1]; rfl, by rw [sOper, if_neg k1]; exact hR.oper⟩ d_M_operates_52
    · refine bz_le (tgt := 37) C (by omega) d_M_operates_25 (by decide) (fun k2 => ?_) (fun k2 => ?_)
      · refine lv_iconst (v := nI 0) hx hb d_M_operates_37 (by decide) ?_
        rw [k2] at J
        exact J
      · refine lv_aload_n hx hb d_M_operates_28 rfl (lv_at hl 0 rfl) ?_
        refine m_geti C hI 10 (by decide) k_fl_M_63 rfl rfl (hR.fu) d_M_operates_29 ?_
        refine lv_iconst (v := nI 1) hx hb d_M_operates_32 (by decide) ?_
        refine an_sub C (by omega) d_M_operates_33 ?_
        refine lv_goto (tgt := 38) hx hb d_M_operates_34 (by decide) ?_
        exact J
  · refine lv_aload_n hx hb d_M_operates_8 rfl (lv_at hl 0 rfl) ?_
    refine lv_iconst (v := nI 0) hx hb d_M_operates_9 (by decide) ?_
    refine m_puti C hI 10 (by omega) k_fl_M_63 rfl rfl rfl rfl d_M_operates_10 (fun H locs MI hMI hI => ?_)
    refine lv_aload_n hx hb d_M_operates_13 rfl (lv_at hl 0 rfl) ?_
    refine lv_iconst (v := nI 1) hx hb d_M_operates_14 (by decide) ?_
    refine m_puti C hI 11 (by omega) k_fl_M_66 rfl rfl rfl rfl d_M_operates_15 (fun H locs MJ hMJ hI => ?_)
    refine lv_iconst (v := 0) hx hb d_M_operates_18 (by decide) ?_
    subst hMI hMJ
    exact rt_RWz C hI hr hlk rfl ⟨by rw [sOper, if_pos k1]; rfl, by rw [sOper, if_pos k1]; exact hR.blow _⟩ d_M_operates_19
theorem fOb_some {F : Fl} {b : Nat} (h : fOp F = some b) : fOb F = b := by unfold fOb; rw [h]; rfl
theorem c_M_put (hG : Geo ad 9) (hR : RM nb sp F S) (hB : WB nb sp F) {b : Nat} (hop : fOp F = some b) (hu : fUs F b < 4) {q : Nat} (hq : q < 4 * (nb - 3)) (v : Int32) (t : Bool) : RWi l D cs ad 9 (eM ad cs) y_M_put b_M_put 5 (some .boolean) 1 [.ref (ad 0), .int (nI q), .int v, .int (sI t)] S (fun r u => r = bI (sProg F q v t).1 ∧ RM nb sp (sProg F q v t).2 u) := by
  refine MC.intro (by decide) (Nat.le_of_ble_eq_true rfl) ?_
  intro p e s m below meth c C hr hlk hnm hH ls hl
  have hI : In D ad 9 s (eM ad cs S) s.heap [] := ⟨hG, hH, va_S.rf⟩
  have hx := C.1.1
  have hb := C.1.2.1
  have h1 := hB.nb
  have hbn := hB.op b hop
  have hob : S.1 8 = nI b := by rw [hR.op, hop]; rfl
  refine lv_iconst (v := nI 4) hx hb d_M_put_0 (by decide) ?_
  refine lv_aload_n hx hb d_M_put_1 rfl (lv_at hl 0 rfl) ?_
  refine m_geti C hI 8 (by decide) k_fl_M_25 rfl rfl (hob) d_M_put_2 ?_
  refine an_mul C d_M_put_5 ?_
  refine lv_istore (lv' := [(4, _), (0, _), (1, _), (2, _), (3, _)]) hx hb d_M_put_6 hl (by decide) rfl (fun ls hl => ?_)
  refine W_for (N := fUs F b) (fun i => [(0, .ref (ad 0)), (1, .int (nI q)), (2, .int v), (3, .int (sI t)), (4, .int (nI (4 * b + i)))]) ?_ ?_ 0 (by omega) ls (lv_sub hl [1, 2, 3, 4, 0] rfl)
  · intro i hi ih ls hl
    refine lv_iload hx hb d_M_put_8 (lv_at hl 4 rfl) ?_
    refine lv_iconst (v := nI 4) hx hb d_M_put_10 (by decide) ?_
    refine lv_aload_n hx hb d_M_put_11 rfl (lv_at hl 0 rfl) ?_
    refine m_geti C hI 8 (by decide) k_fl_M_25 rfl rfl (hob) d_M_put_12 ?_
    refine an_mul C d_M_put_15 ?_
    refine lv_iconst (v := nI 3) hx hb d_M_put_16 (by decide) ?_
    refine an_add C d_M_put_17 ?_
    refine bn_ge (tgt := 38) C (by omega) (by omega) d_M_put_18 (by decide) (fun k1 => ?_) (fun k1 => ?_)
    · omega
    · refine lv_aload_n hx hb d_M_put_21 rfl (lv_at hl 0 rfl) ?_
      refine m_getr C hI 2 (by decide) k_fl_M_7 rfl 1 rfl d_M_put_22 ?_
      refine lv_iload hx hb d_M_put_25 (lv_at hl 4 rfl) ?_
      have e : prg F (4 * b + i) = true := by rw [prg_eq F b i (by omega)]; exact decide_eq_true hi
      refine m_ald C hI 0 (by omega) (i := 4 * b + i) (show 4 * b + i < 48 by omega) (by rw [hR.sc _ (by omega), if_pos e]) d_M_put_27 ?_
      refine lv_iconst (v := -1) hx hb d_M_put_28 (by decide) ?_
      refine lv_icmp_eq (tgt := 38) hx hb d_M_put_29 (by decide) (fun k2 => ?_) (fun k2 => ?_)
      · exact absurd k2 (nI_nem1 (by have := hB.sc _ (by omega) e; omega))
      · refine lv_iinc (lv' := [(4, _), (0, _), (1, _), (2, _), (3, _)]) hx hb d_M_put_32 hl (k := 4) rfl (nI_inc _) (by decide) rfl (fun ls hl => ?_)
        refine lv_goto (tgt := 8) hx hb d_M_put_35 (by decide) ?_
        exact ih ls (lv_sub hl [1, 2, 3, 4, 0] rfl)
  · intro ls hl
    refine W_at (g2 := F0 m 38 ls []) ?_ (fun J => ?_)
    · refine lv_aload_n hx hb d_M_put_38 rfl (lv_at hl 0 rfl) ?_
      refine mc_RWi C hI (c_M_operates hG hR hB) yv_M_operates k_ml_M_73 rfl (by decide) rfl hl.1 rfl (Nat.le_of_ble_eq_true rfl) d_M_put_39 ⟨Nat.le_refl _, Nat.le_refl _⟩ (fun r S1 H locs hp hI => ?_)
      obtain ⟨rfl, hR1⟩ := hp
      have hnp : fNp (fOper F) = 4 * b + fUs F b := by unfold fNp; rw [fOb_some (F := fOper F) hop]; rfl
      refine bb_ne (tgt := 47) C d_M_put_42 (by decide) (fun k1 => ?_) (fun k1 => ?_)
      · have hfu : ¬ fFu F = 1 := by intro z; rw [sOper, if_pos z] at k1; cases k1
        rw [sOper, if_neg hfu] at hR1
        have hi2 : 4 * b + fUs F b < 48 := by omega
        refine lv_aload_n hx hb d_M_put_47 rfl (lv_at hl 0 rfl) ?_
        refine m_getr C hI 2 (by decide) k_fl_M_7 rfl 1 rfl d_M_put_48 ?_
        refine lv_iload hx hb d_M_put_51 (lv_at hl 4 rfl) ?_
        refine lv_iload_n hx hb d_M_put_53 rfl (lv_at hl 1 rfl) ?_
        refine m_ast C hI 0 (by omega) hi2 d_M_put_54 (fun H locs MA hMA hI => ?_)
        rename_i MA1 hMA1
        refine lv_aload_n hx hb d_M_put_55 rfl (lv_at hl 0 rfl) ?_
        refine m_getr C hI 3 (by decide) k_fl_M_13 rfl 2 rfl d_M_put_56 ?_
        refine lv_iload hx hb d_M_put_59 (lv_at hl 4 rfl) ?_
        refine lv_iload_n hx hb d_M_put_61 rfl (lv_at hl 2 rfl) ?_
        refine m_ast C hI 1 (by omega) hi2 d_M_put_62 (fun H locs MB hMB hI => ?_)
        refine lv_aload_n hx hb d_M_put_63 rfl (lv_at hl 0 rfl) ?_
        refine m_getr C hI 5 (by decide) k_fl_M_19 rfl 4 rfl d_M_put_64 ?_
        refine lv_iload hx hb d_M_put_67 (lv_at hl 4 rfl) ?_
        refine lv_iload_n hx hb d_M_put_69 rfl (lv_at hl 3 rfl) ?_
        refine m_ast C hI 3 (by omega) hi2 d_M_put_70 (fun H locs MC hMC hI => ?_)
        refine lv_aload_n hx hb d_M_put_71 rfl (lv_at hl 0 rfl) ?_
        refine m_getr C hI 4 (by decide) k_fl_M_16 rfl 3 rfl d_M_put_72 ?_
        refine lv_iload hx hb d_M_put_75 (lv_at hl 4 rfl) ?_
        refine lv_aload_n hx hb d_M_put_77 rfl (lv_at hl 0 rfl) ?_
        refine m_geti C hI 7 (by decide) k_fl_M_77 rfl rfl (hR1.nx) d_M_put_78 ?_
        refine m_ast C hI 2 (by omega) hi2 d_M_put_81 (fun H locs MD hMD hI => ?_)
        refine lv_aload_n hx hb d_M_put_82 rfl (lv_at hl 0 rfl) ?_
        refine lv_dup hx hb d_M_put_83 rfl ?_
        refine m_geti C hI 7 (by decide) k_fl_M_77 rfl rfl (hR1.nx) d_M_put_84 ?_
        refine lv_iconst (v := nI 1) hx hb d_M_put_87 (by decide) ?_
        refine an_add C d_M_put_88 ?_
        refine m_puti C hI 7 (by omega) k_fl_M_77 rfl rfl rfl rfl d_M_put_89 (fun H locs MI hMI hI => ?_)
        refine lv_iconst (v := 1) hx hb d_M_put_92 (by decide) ?_
        subst hMI hMD hMC hMB hMA
        exact rt_RWz C hI hr hlk rfl ⟨by rw [sProg, if_neg hfu]; rfl, by rw [sProg, if_neg hfu]; have h9 := hR1.prog (by rw [fOb_some (F := fOper F) hop]; exact hu) q v t; rw [hnp] at h9; exact h9⟩ d_M_put_93
      · have hfu : fFu F = 1 := by
          rcases Decidable.em (fFu F = 1) with z | z
          · exact z
          · rw [sOper, if_neg z] at k1; cases k1
        rw [sOper, if_pos hfu] at hR1
        refine lv_iconst (v := 0) hx hb d_M_put_45 (by decide) ?_
        exact rt_RWz C hI hr hlk rfl ⟨by rw [sProg, if_pos hfu]; rfl, by rw [sProg, if_pos hfu]; exact hR1⟩ d_M_put_46
    · refine lv_iload hx hb d_M_put_8 (lv_at hl 4 rfl) ?_
      refine lv_iconst (v := nI 4) hx hb d_M_put_10 (by decide) ?_
      refine lv_aload_n hx hb d_M_put_11 rfl (lv_at hl 0 rfl) ?_
      refine m_geti C hI 8 (by decide) k_fl_M_25 rfl rfl (hob) d_M_put_12 ?_
      refine an_mul C d_M_put_15 ?_
      refine lv_iconst (v := nI 3) hx hb d_M_put_16 (by decide) ?_
      refine an_add C d_M_put_17 ?_
      refine bn_ge (tgt := 38) C (by omega) (by omega) d_M_put_18 (by decide) (fun k1 => ?_) (fun k1 => ?_)
      · exact J
      · refine lv_aload_n hx hb d_M_put_21 rfl (lv_at hl 0 rfl) ?_
        refine m_getr C hI 2 (by decide) k_fl_M_7 rfl 1 rfl d_M_put_22 ?_
        refine lv_iload hx hb d_M_put_25 (lv_at hl 4 rfl) ?_
        have e : prg F (4 * b + fUs F b) = false := by rw [prg_eq F b _ (by omega)]; simp
        refine m_ald C hI 0 (by omega) (i := 4 * b + fUs F b) (show 4 * b + fUs F b < 48 by omega) (by rw [hR.sc _ (by omega), if_neg (by rw [e]; decide)]) d_M_put_27 ?_
        refine lv_iconst (v := -1) hx hb d_M_put_28 (by decide) ?_
        refine lv_icmp_eq (tgt := 38) hx hb d_M_put_29 (by decide) (fun k2 => ?_) (fun k2 => ?_)
        · exact J
        · exact absurd rfl k2
end MW
end
section
/-! THE TWIN: collect -/
section MC1
variable {l : Launch} {D : va_G} {cs : Nat → ClassId} {ad : Nat → Nat} {nb sp : Nat} {F : Fl} {S : SM}
theorem cpF_no {nb v : Nat} {F : Fl} {i : Nat} (h : vld nb (cpF nb v F i).2 (4 * v + i) = false) : cpF nb v F (i + 1) = cpF nb v F i := by
  rw [cpF, h, Bool.and_false, if_neg (by decide)]
theorem cpF_yes {nb v : Nat} {F : Fl} {i : Nat} (h0 : (cpF nb v F i).1 = true) (h : vld nb (cpF nb v F i).2 (4 * v + i) = true) : cpF nb v F (i + 1) = sProg (cpF nb v F i).2 (fSc (cpF nb v F i).2 (4 * v + i)) (fVl (cpF nb v F i).2 (4 * v + i)) (fTr (cpF nb v F i).2 (4 * v + i)) := by
  rw [cpF, h, h0, if_pos (by decide)]
theorem cpF_stop {nb v : Nat} {F : Fl} {i : Nat} (h : (cpF nb v F i).1 = false) : ∀ k, cpF nb v F (i + k) = cpF nb v F i
  | 0 => rfl
  | k + 1 => by
    have ih := cpF_stop h k
    rw [← Nat.add_assoc, cpF, ih, h, Bool.false_and, if_neg (by decide)]
theorem RM.erase {MI : Nat → Int32} {MA MA2 : Nat → Nat → Int32} {v : Nat} (h : RM nb sp F (MI, MA2)) (hk : ∀ k, k ≠ 0 → MA k = MA2 k) (h0 : ∀ q, MA 0 q = if 4 * v ≤ q ∧ q < 4 * v + 4 then -1 else MA2 0 q) : RM nb sp (fErase F v) (MI, up2 MA 4 v (nI (fEr F v + 1))) := by
  have hp : ∀ q, prg (fErase F v) q = (prg F q && decide (q / 4 ≠ v)) := by
    intro q
    unfold prg
    rw [show fUs (fErase F v) = va_up (fUs F) v 0 from rfl]
    by_cases e : q / 4 = v
    · rw [e, va_up_self]; simp
    · rw [va_up_ne _ _ e]; simp [e]
  refine ⟨h.nb, h.sp, h.nx, h.op, h.os, h.fu, h.bl, fun q hq => ?_, fun q hq hp1 => ?_, fun b hb => ?_, fun k e he => ?_⟩
  · show MA 0 q = if prg (fErase F v) q then nI (fSc F q) else -1
    rw [h0, hp]
    have h9 := h.sc q hq
    by_cases e : q / 4 = v
    · rw [if_pos (by omega)]; simp [e]
    · rw [if_neg (by omega)]
      have h9' : MA2 0 q = if prg F q then nI (fSc F q) else -1 := h9
      rw [h9']; simp [e]
  · rw [hp] at hp1
    simp only [Bool.and_eq_true] at hp1
    show MA 1 q = fVl F q ∧ MA 2 q = nI (fSr F q) ∧ MA 3 q = sI (fTr F q)
    rw [hk 1 (by decide), hk 2 (by decide), hk 3 (by decide)]
    exact h.pg q hq hp1.1
  · show va_up (MA 4) v (nI (fEr F v + 1)) b = nI (va_up (fEr F) v (fEr F v + 1) b)
    by_cases e : b = v
    · subst e; rw [va_up_self, va_up_self]
    · rw [va_up_ne _ _ e, va_up_ne _ _ e, hk 4 (by decide)]
      exact h.er b hb
  · show MA 5 k = nI e.1 ∧ MA 6 k = e.2.1 ∧ MA 7 k = sI e.2.2
    rw [hk 5 (by decide), hk 6 (by decide), hk 7 (by decide)]
    exact h.bf k e he
theorem c_M_collect (hG : Geo ad 9) (hR : RM nb sp F S) {v : Nat} (hO : CollOK nb sp F v) : RWi l D cs ad 9 (eM ad cs) y_M_collect b_M_collect 3 (some .boolean) 2 [.ref (ad 0), .int (nI v)] S (fun r u => r = bI (sColl nb F v).1 ∧ RM nb sp (sColl nb F v).2 u) := by
  refine MC.intro (by decide) (Nat.le_of_ble_eq_true rfl) ?_
  intro p e s m below meth c C hr hlk hnm hH ls hl
  have hI : In D ad 9 s (eM ad cs S) s.heap [] := ⟨hG, hH, va_S.rf⟩
  have hx := C.1.1
  have hb := C.1.2.1
  have h1 := (hO.2 0 (by omega) rfl).1.nb
  have hv := hO.1
  refine lv_iconst (v := nI 4) hx hb d_M_collect_0 (by decide) ?_
  refine lv_iload_n hx hb d_M_collect_1 rfl (lv_at hl 1 rfl) ?_
  refine an_mul C d_M_collect_2 ?_
  refine lv_istore_n (lv' := [(2, _), (0, _), (1, _)]) hx hb d_M_collect_3 rfl hl (by decide) rfl (fun ls hl => ?_)
  refine W_while (fun i => 4 - i) (fun i H locs ls => i ≤ 4 ∧ (cpF nb v F i).1 = true ∧ ∃ S1, RM nb sp (cpF nb v F i).2 S1 ∧ In D ad 9 s (eM ad cs S1) H locs ∧ lv_has ls 3 [(0, .ref (ad 0)), (1, .int (nI v)), (2, .int (nI (4 * v + i)))]) ?_ 0 ⟨by omega, rfl, S, hR, hI, lv_sub hl [1, 2, 0] rfl⟩
  intro i H locs ls ⟨hi, hc, S1, hR1, hI, hl⟩ ih
  obtain ⟨hB, hroom⟩ := hO.2 i hi hc
  refine lv_iload_n hx hb d_M_collect_4 rfl (lv_at hl 2 rfl) ?_
  refine lv_iconst (v := nI 4) hx hb d_M_collect_5 (by decide) ?_
  refine lv_iload_n hx hb d_M_collect_6 rfl (lv_at hl 1 rfl) ?_
  refine an_mul C d_M_collect_7 ?_
  refine lv_iconst (v := nI 4) hx hb d_M_collect_8 (by decide) ?_
  refine an_add C d_M_collect_9 ?_
  refine bn_ge (tgt := 54) C (by omega) (by omega) d_M_collect_10 (by decide) (fun k1 => ?_) (fun k1 => ?_)
  · have e4 : i = 4 := by omega
    subst e4
    refine lv_aload_n hx hb d_M_collect_54 rfl (lv_at hl 0 rfl) ?_
    refine mc_RWi C hI (c_M_operates hG hR1 hB) yv_M_operates k_ml_M_73 rfl (by decide) rfl hl.1 rfl (Nat.le_of_ble_eq_true rfl) d_M_collect_55 ⟨Nat.le_refl _, Nat.le_refl _⟩ (fun r S2 H locs hp hI => ?_)
    obtain ⟨rfl, hR2⟩ := hp
    refine bb_ne (tgt := 63) C d_M_collect_58 (by decide) (fun k2 => ?_) (fun k2 => ?_)
    · have hfu : ¬ fFu (cpF nb v F 4).2 = 1 := by intro z; rw [sOper, if_pos z] at k2; cases k2
      rw [sOper, if_neg hfu] at hR2
      have hres : sColl nb F v = (true, fErase (fOper (cpF nb v F 4).2) v) := by rw [sColl, hc, if_pos rfl, if_neg hfu]
      obtain ⟨MI2, MA2⟩ := S2
      refine lv_iconst (v := nI 4) hx hb d_M_collect_63 (by decide) ?_
      refine lv_iload_n hx hb d_M_collect_64 rfl (lv_at hl 1 rfl) ?_
      refine an_mul C d_M_collect_65 ?_
      refine lv_istore_n (lv' := [(2, _), (0, _), (1, _)]) hx hb d_M_collect_66 rfl hl (by decide) rfl (fun ls hl => ?_)
      refine W_while (fun i => 4 - i) (fun i H locs ls => i ≤ 4 ∧ ∃ MA : Nat → Nat → Int32, (∀ k, k ≠ 0 → MA k = MA2 k) ∧ (∀ q, MA 0 q = if 4 * v ≤ q ∧ q < 4 * v + i then -1 else MA2 0 q) ∧ In D ad 9 s (eM ad cs (MI2, MA)) H locs ∧ lv_has ls 3 [(0, .ref (ad 0)), (1, .int (nI v)), (2, .int (nI (4 * v + i)))]) ?_ 0 ⟨by omega, MA2, fun _ _ => rfl, fun q => by rw [if_neg (by omega)], hI, lv_sub hl [1, 2, 0] rfl⟩
      intro i H locs ls ⟨hi, MA, hk, h0, hI, hl⟩ ih
      refine lv_iload_n hx hb d_M_collect_67 rfl (lv_at hl 2 rfl) ?_
      refine lv_iconst (v := nI 4) hx hb d_M_collect_68 (by decide) ?_
      refine lv_iload_n hx hb d_M_collect_69 rfl (lv_at hl 1 rfl) ?_
      refine an_mul C d_M_collect_70 ?_
      refine lv_iconst (v := nI 4) hx hb d_M_collect_71 (by decide) ?_
      refine an_add C d_M_collect_72 ?_
      refine bn_ge (tgt := 89) C (by omega) (by omega) d_M_collect_73 (by decide) (fun k3 => ?_) (fun k3 => ?_)
      · have e4 : i = 4 := by omega
        subst e4
        refine lv_aload_n hx hb d_M_collect_89 rfl (lv_at hl 0 rfl) ?_
        refine m_getr C hI 6 (by decide) k_fl_M_22 rfl 5 rfl d_M_collect_90 ?_
        refine lv_iload_n hx hb d_M_collect_93 rfl (lv_at hl 1 rfl) ?_
        refine lv_dup2_11 hx hb d_M_collect_94 rfl rfl ?_
        refine m_ald C hI 4 (by omega) (i := v) (show v < 12 by omega) (show MA 4 v = nI (fEr (fOper (cpF nb v F 4).2) v) by rw [hk 4 (by decide)]; exact hR2.er v hv) d_M_collect_95 ?_
        refine lv_iconst (v := nI 1) hx hb d_M_collect_96 (by decide) ?_
        refine an_add C d_M_collect_97 ?_
        refine m_ast C hI 4 (by omega) (i := v) (show v < 12 by omega) d_M_collect_98 (fun H locs MB hMB hI => ?_)
        refine lv_iconst (v := 1) hx hb d_M_collect_99 (by decide) ?_
        subst hMB
        exact rt_RWz C hI hr hlk rfl ⟨by rw [hres]; rfl, by rw [hres]; exact hR2.erase hk h0⟩ d_M_collect_100
      · refine lv_aload_n hx hb d_M_collect_76 rfl (lv_at hl 0 rfl) ?_
        refine m_getr C hI 2 (by decide) k_fl_M_7 rfl 1 rfl d_M_collect_77 ?_
        refine lv_iload_n hx hb d_M_collect_80 rfl (lv_at hl 2 rfl) ?_
        refine lv_iconst (v := -1) hx hb d_M_collect_81 (by decide) ?_
        refine m_ast C hI 0 (by omega) (i := 4 * v + i) (show 4 * v + i < 48 by omega) d_M_collect_82 (fun H locs MB hMB hI => ?_)
        refine lv_iinc (lv' := [(2, _), (0, _), (1, _)]) hx hb d_M_collect_83 hl (k := 2) rfl (nI_inc _) (by decide) rfl (fun ls hl => ?_)
        refine lv_goto (tgt := 67) hx hb d_M_collect_86 (by decide) ?_
        refine ih (i + 1) _ _ _ (by omega) ⟨by omega, MB, fun k hk0 => ?_, fun q => ?_, hI, lv_sub hl [1, 2, 0] rfl⟩
        · rw [hMB, va_up_ne _ _ hk0]; exact hk k hk0
        · rw [hMB, va_up_self]
          by_cases e : q = 4 * v + i
          · subst e; rw [va_up_self, if_pos (by omega)]
          · rw [va_up_ne _ _ e]
            show MA 0 q = _
            rw [h0]
            by_cases z : 4 * v ≤ q ∧ q < 4 * v + i
            · rw [if_pos z, if_pos (by omega)]
            · rw [if_neg z, if_neg (by omega)]
    · have hfu : fFu (cpF nb v F 4).2 = 1 := by
        rcases Decidable.em (fFu (cpF nb v F 4).2 = 1) with z | z
        · exact z
        · rw [sOper, if_neg z] at k2; cases k2
      rw [sOper, if_pos hfu] at hR2
      have hres : sColl nb F v = (false, fBlow (cpF nb v F 4).2) := by rw [sColl, hc, if_pos rfl, if_pos hfu]
      refine lv_iconst (v := 0) hx hb d_M_collect_61 (by decide) ?_
      exact rt_RWz C hI hr hlk rfl ⟨by rw [hres]; rfl, by rw [hres]; exact hR2⟩ d_M_collect_62
  · have hi4 : i < 4 := by omega
    have hq : 4 * v + i < 4 * nb := by omega
    refine lv_aload_n hx hb d_M_collect_13 rfl (lv_at hl 0 rfl) ?_
    refine lv_iload_n hx hb d_M_collect_14 rfl (lv_at hl 2 rfl) ?_
    refine mc_ROi C hI (c_M_isValid hG hR1 hB hq) yv_M_isValid k_ml_M_52 rfl (by decide) rfl hl.1 rfl (Nat.le_of_ble_eq_true rfl) d_M_collect_15 ⟨Nat.le_refl _, Nat.le_refl _⟩ (fun r hp => ?_)
    subst hp
    refine bb_eq (tgt := 48) C d_M_collect_18 (by decide) (fun k2 => ?_) (fun k2 => ?_)
    · refine lv_iinc (lv' := [(2, _), (0, _), (1, _)]) hx hb d_M_collect_48 hl (k := 2) rfl (nI_inc _) (by decide) rfl (fun ls hl => ?_)
      refine lv_goto (tgt := 4) hx hb d_M_collect_51 (by decide) ?_
      refine ih (i + 1) _ _ _ (by omega) ⟨by omega, by rw [cpF_no k2]; exact hc, S1, by rw [cpF_no k2]; exact hR1, hI, lv_sub hl [1, 2, 0] rfl⟩
    · obtain ⟨b, hop, hub⟩ := hroom hi4 k2
      have hpg : prg (cpF nb v F i).2 (4 * v + i) = true := by unfold vld at k2; simp only [Bool.and_eq_true] at k2; exact k2.1
      have hsc := hB.sc _ hq hpg
      have hpv := hR1.pg _ hq hpg
      refine lv_aload_n hx hb d_M_collect_21 rfl (lv_at hl 0 rfl) ?_
      refine lv_aload_n hx hb d_M_collect_22 rfl (lv_at hl 0 rfl) ?_
      refine m_getr C hI 2 (by decide) k_fl_M_7 rfl 1 rfl d_M_collect_23 ?_
      refine lv_iload_n hx hb d_M_collect_26 rfl (lv_at hl 2 rfl) ?_
      refine m_ald C hI 0 (by omega) (i := 4 * v + i) (show 4 * v + i < 48 by omega) (by rw [hR1.sc _ hq, if_pos hpg]) d_M_collect_27 ?_
      refine lv_aload_n hx hb d_M_collect_28 rfl (lv_at hl 0 rfl) ?_
      refine m_getr C hI 3 (by decide) k_fl_M_13 rfl 2 rfl d_M_collect_29 ?_
      refine lv_iload_n hx hb d_M_collect_32 rfl (lv_at hl 2 rfl) ?_
      refine m_ald C hI 1 (by omega) (i := 4 * v + i) (show 4 * v + i < 48 by omega) hpv.1 d_M_collect_33 ?_
      refine lv_aload_n hx hb d_M_collect_34 rfl (lv_at hl 0 rfl) ?_
      refine m_getr C hI 5 (by decide) k_fl_M_19 rfl 4 rfl d_M_collect_35 ?_
      refine lv_iload_n hx hb d_M_collect_38 rfl (lv_at hl 2 rfl) ?_
      refine m_ald C hI 3 (by omega) (i := 4 * v + i) (show 4 * v + i < 48 by omega) hpv.2.2 d_M_collect_39 ?_
      refine mc_RWi C hI (c_M_put hG hR1 hB hop hub hsc _ _) yv_M_put k_ml_M_80 rfl (by decide) rfl hl.1 rfl (Nat.le_of_ble_eq_true rfl) d_M_collect_40 ⟨Nat.le_refl _, Nat.le_refl _⟩ (fun r S2 H locs hp hI => ?_)
      obtain ⟨rfl, hR2⟩ := hp
      have hcp := cpF_yes hc k2
      rw [← hcp] at hR2
      rw [← hcp]
      refine bb_ne (tgt := 48) C d_M_collect_43 (by decide) (fun k3 => ?_) (fun k3 => ?_)
      · refine lv_iinc (lv' := [(2, _), (0, _), (1, _)]) hx hb d_M_collect_48 hl (k := 2) rfl (nI_inc _) (by decide) rfl (fun ls hl => ?_)
        refine lv_goto (tgt := 4) hx hb d_M_collect_51 (by decide) ?_
        refine ih (i + 1) _ _ _ (by omega) ⟨by omega, k3, S2, hR2, hI, lv_sub hl [1, 2, 0] rfl⟩
      · have hst := cpF_stop k3 (4 - (i + 1))
        rw [show i + 1 + (4 - (i + 1)) = 4 by omega] at hst
        have hres : sColl nb F v = cpF nb v F (i + 1) := by rw [sColl, hst, k3, if_neg (by decide)]
        refine lv_iconst (v := 0) hx hb d_M_collect_46 (by decide) ?_
        exact rt_RWz C hI hr hlk rfl ⟨by rw [hres, k3]; rfl, by rw [hres]; exact hR2⟩ d_M_collect_47
end MC1
end
section
/-! THE TWIN: room, store -/
section MC2
variable {l : Launch} {D : va_G} {cs : Nat → ClassId} {ad : Nat → Nat} {nb sp : Nat} {F : Fl} {S : SM}
theorem RM.setOp (h : RM nb sp F S) (o : Option Nat) : RM nb sp (fSetOp F o) (va_up S.1 8 (oI o), S.2) := ⟨h.nb, h.sp, h.nx, rfl, h.os, h.fu, h.bl, h.sc, h.pg, h.er, h.bf⟩
theorem mxE_of {F G : Fl} (h : fEr F = fEr G) : ∀ k, mxE F k = mxE G k
  | 0 => by unfold mxE; rw [h]
  | k + 1 => by unfold mxE; rw [mxE_of h k, h]
theorem mnE_of {F G : Fl} (h : fEr F = fEr G) : ∀ k, mnE F k = mnE G k
  | 0 => by unfold mnE; rw [h]
  | k + 1 => by unfold mnE; rw [mnE_of h k, h]
theorem fWorn_of {F G : Fl} (h : fEr F = fEr G) : fWorn nb sp F = fWorn nb sp G := by unfold fWorn; rw [mxE_of h, mnE_of h]
theorem oI_get {o : Option Nat} (h : o.isSome = true) : oI o = nI (o.getD 0) := by
  cases o with
  | none => cases h
  | some j => rfl
theorem c_M_room (hG : Geo ad 9) (hR : RM nb sp F S) (hO : ProvOK nb sp 3 false F) : RWi l D cs ad 9 (eM ad cs) y_M_room b_M_room 5 (some .boolean) 4 [.ref (ad 0)] S (fun r u => r = bI (sProv nb sp 3 false F).1 ∧ RM nb sp (sProv nb sp 3 false F).2 u) := by
  refine MC.intro (by decide) (Nat.le_of_ble_eq_true rfl) ?_
  intro p e s m below meth c C hr hlk hnm hH ls hl
  have hI : In D ad 9 s (eM ad cs S) s.heap [] := ⟨hG, hH, va_S.rf⟩
  have hx := C.1.1
  have hb := C.1.2.1
  refine lv_iconst (v := bI false) hx hb d_M_room_0 (by decide) ?_
  refine lv_istore_n (lv' := [(1, _), (0, _)]) hx hb d_M_room_1 rfl hl (by decide) rfl (fun ls hl => ?_)
  refine lv_iconst (v := nI 0) hx hb d_M_room_2 (by decide) ?_
  refine lv_istore_n (lv' := [(2, _), (1, _), (0, _)]) hx hb d_M_room_3 rfl hl (by decide) rfl (fun ls hl => ?_)
  refine W_while (σ := Nat × Bool × Fl × Nat) (fun x => x.1) (fun x H locs ls => ProvOK nb sp x.1 x.2.1 x.2.2.1 ∧ sProv nb sp x.1 x.2.1 x.2.2.1 = sProv nb sp 3 false F ∧ x.2.2.2 + x.1 ≤ 3 ∧ ∃ S1, RM nb sp x.2.2.1 S1 ∧ In D ad 9 s (eM ad cs S1) H locs ∧ lv_has ls 5 [(0, .ref (ad 0)), (1, .int (bI x.2.1)), (2, .int (nI x.2.2.2))]) ?_ (3, false, F, 0) ⟨hO, rfl, Nat.le_refl 3, S, hR, hI, lv_sub hl [2, 1, 0] rfl⟩
  intro ⟨n, lev, F1, k⟩ H locs ls ⟨hO1, hs1, hk, S1, hR1, hI, hl⟩ ih
  cases n with
  | zero => exact hO1.elim
  | succ n =>
  dsimp only at hO1 hs1 hk hR1 hl ih
  obtain ⟨hB, hO2⟩ := hO1
  have h1 := hB.nb
  refine lv_iload_n hx hb d_M_room_4 rfl (lv_at hl 2 rfl) ?_
  refine lv_sipush (v := nI 1000) hx hb d_M_room_5 (by decide) ?_
  refine bn_ge (tgt := 122) C (by omega) (by omega) d_M_room_8 (by decide) (fun k1 => ?_) (fun k1 => ?_)
  · omega
  · refine W_if (P := noRoom F1 = true) (g2 := F0 m 31 ls []) (fun hno => ?_) (fun J => ?_)
    · obtain ⟨hB2, hp0, hO3, hO4⟩ := hO2 hno
      have hfr := cnt_le (fun b => fUs F1 b == 0) nb
      refine lv_aload_n hx hb d_M_room_31 rfl (lv_at hl 0 rfl) ?_
      refine mc_ROi C hI (c_M_freeBlocks hG hR1 hB) yv_M_freeBlocks k_ml_M_84 rfl (by decide) rfl hl.1 rfl (Nat.le_of_ble_eq_true rfl) d_M_room_32 ⟨Nat.le_refl _, Nat.le_refl _⟩ (fun r hp => ?_)
      subst hp
      refine lv_iconst (v := nI 2) hx hb d_M_room_35 (by decide) ?_
      refine W_at (g2 := F0 m 44 ls [.int (bI (decide (fFree nb F1 < 2)))]) ?_ (fun J => ?_)
      · refine lv_istore_n (lv' := [(3, _), (0, _), (1, _), (2, _)]) hx hb d_M_room_44 rfl hl (by decide) rfl (fun ls hl => ?_)
        refine lv_aload_n hx hb d_M_room_45 rfl (lv_at hl 1 rfl) ?_
        refine lv_aload_n hx hb d_M_room_46 rfl (lv_at hl 1 rfl) ?_
        refine lv_iconst (v := nI 0) hx hb d_M_room_47 (by decide) ?_
        refine lv_iconst (v := bI false) hx hb d_M_room_48 (by decide) ?_
        refine mc_ROi C hI (c_M_pick hG hR1 hB (g := 0) (by omega) false) yv_M_pick k_ml_M_87 rfl (by decide) rfl hl.1 rfl (Nat.le_of_ble_eq_true rfl) d_M_room_49 ⟨Nat.le_refl _, Nat.le_refl _⟩ (fun r hp => ?_)
        subst hp
        refine m_puti C hI 8 (by omega) k_fl_M_25 rfl rfl rfl rfl d_M_room_52 (fun H locs MI hMI hI => ?_)
        have hR2 := hR1.setOp (fPick nb F1 0 false)
        subst hMI
        refine lv_iload_n hx hb d_M_room_55 rfl (lv_at hl 0 rfl) ?_
        refine bb_eq (tgt := 116) C d_M_room_56 (by decide) (fun k2 => ?_) (fun k2 => ?_)
        · have hk2 : ¬ fFree nb F1 < 2 := of_decide_eq_false k2
          refine lv_iinc (lv' := [(2, _), (3, _), (0, _), (1, _)]) hx hb d_M_room_116 hl (k := 3) rfl (nI_inc _) (by decide) rfl (fun ls hl => ?_)
          refine lv_goto (tgt := 4) hx hb d_M_room_119 (by decide) ?_
          refine ih (n, lev, fSetOp F1 (fPick nb F1 0 false), k + 1) _ _ _ (by show n < n + 1; omega) ⟨hO4 hk2, ?_, by show k + 1 + n ≤ 3; omega, _, hR2, hI, lv_sub hl [2, 3, 0] rfl⟩
          rw [← hs1]
          show _ = sProv nb sp (n + 1) lev F1
          conv => rhs; unfold sProv
          rw [if_pos hno, if_neg hk2]
        · have hk2 : fFree nb F1 < 2 := of_decide_eq_true k2
          obtain ⟨hp4, hC, hO5⟩ := hO3 hk2
          have hsv : sProv nb sp (n + 1) lev F1 = if (sColl nb (fSetOp F1 (fPick nb F1 0 false)) ((fPick nb (fSetOp F1 (fPick nb F1 0 false)) 4 (!(!lev && fWorn nb sp F1))).getD 0)).1 then sProv nb sp n (lev || (!lev && fWorn nb sp F1)) (sColl nb (fSetOp F1 (fPick nb F1 0 false)) ((fPick nb (fSetOp F1 (fPick nb F1 0 false)) 4 (!(!lev && fWorn nb sp F1))).getD 0)).2 else sColl nb (fSetOp F1 (fPick nb F1 0 false)) ((fPick nb (fSetOp F1 (fPick nb F1 0 false)) 4 (!(!lev && fWorn nb sp F1))).getD 0) := by
            conv => lhs; unfold sProv
            rw [if_pos hno, if_pos hk2]
          rw [hs1] at hsv
          generalize hev : (!lev && fWorn nb sp F1) = ev at hp4 hC hO5 hsv ⊢
          generalize hF2 : fSetOp F1 (fPick nb F1 0 false) = F2 at hB2 hp4 hC hO5 hsv hR2
          have hw : fWorn nb sp F2 = fWorn nb sp F1 := by rw [← hF2]; exact fWorn_of rfl
          refine W_at (g2 := F0 m 75 ls [.int (bI ev)]) ?_ (fun J => ?_)
          · refine lv_istore (lv' := [(4, _), (3, _), (0, _), (1, _), (2, _)]) hx hb d_M_room_75 hl (by decide) rfl (fun ls hl => ?_)
            refine lv_iload_n hx hb d_M_room_77 rfl (lv_at hl 3 rfl) ?_
            refine W_at (g2 := F0 m 91 ls [.int (bI (lev || ev))]) ?_ (fun J => ?_)
            · refine lv_istore_n (lv' := [(1, _), (4, _), (3, _), (0, _), (2, _)]) hx hb d_M_room_91 rfl hl (by decide) rfl (fun ls hl => ?_)
              refine lv_aload_n hx hb d_M_room_92 rfl (lv_at hl 3 rfl) ?_
              refine lv_aload_n hx hb d_M_room_93 rfl (lv_at hl 3 rfl) ?_
              refine lv_iconst (v := nI 4) hx hb d_M_room_94 (by decide) ?_
              refine lv_iload hx hb d_M_room_95 (lv_at hl 1 rfl) ?_
              refine W_at (g2 := F0 m 105 ls [.int (bI (!ev)), .int (nI 4), .ref (ad 0), .ref (ad 0)]) ?_ (fun J => ?_)
              · refine mc_ROi C hI (c_M_pick hG hR2 hB2 (g := 4) (by omega) (!ev)) yv_M_pick k_ml_M_87 rfl (by decide) rfl hl.1 rfl (Nat.le_of_ble_eq_true rfl) d_M_room_105 ⟨Nat.le_refl _, Nat.le_refl _⟩ (fun r hp => ?_)
                subst hp
                rw [oI_get hp4]
                refine mc_RWi C hI (c_M_collect hG hR2 hC) yv_M_collect k_ml_M_94 rfl (by decide) rfl hl.1 rfl (Nat.le_of_ble_eq_true rfl) d_M_room_108 ⟨Nat.le_refl _, Nat.le_refl _⟩ (fun r S3 H locs hp hI => ?_)
                obtain ⟨rfl, hR3⟩ := hp
                refine bb_ne (tgt := 116) C d_M_room_111 (by decide) (fun k3 => ?_) (fun k3 => ?_)
                · rw [if_pos k3] at hsv
                  refine lv_iinc (lv' := [(2, _), (1, _), (4, _), (3, _), (0, _)]) hx hb d_M_room_116 hl (k := 4) rfl (nI_inc _) (by decide) rfl (fun ls hl => ?_)
                  refine lv_goto (tgt := 4) hx hb d_M_room_119 (by decide) ?_
                  exact ih (n, (lev || ev), (sColl nb F2 ((fPick nb F2 4 (!ev)).getD 0)).2, k + 1) _ _ _ (by show n < n + 1; omega) ⟨hO5 k3, hsv.symm, by show k + 1 + n ≤ 3; omega, _, hR3, hI, lv_sub hl [4, 1, 0] rfl⟩
                · rw [if_neg (by rw [k3]; decide)] at hsv
                  refine lv_iconst (v := 0) hx hb d_M_room_114 (by decide) ?_
                  exact rt_RWz C hI hr hlk rfl ⟨by rw [hsv, k3]; rfl, by rw [hsv]; exact hR3⟩ d_M_room_115
              · refine bb_ne (tgt := 104) C d_M_room_97 (by decide) (fun k3 => ?_) (fun k3 => ?_)
                · refine lv_iconst (v := 0) hx hb d_M_room_104 (by decide) ?_
                  refine W.eq ?_ J
                  rw [k3]; rfl
                · refine lv_iconst (v := 1) hx hb d_M_room_100 (by decide) ?_
                  refine lv_goto (tgt := 105) hx hb d_M_room_101 (by decide) ?_
                  refine W.eq ?_ J
                  rw [k3]; rfl
            · refine bb_ne (tgt := 86) C d_M_room_78 (by decide) (fun k3 => ?_) (fun k3 => ?_)
              · refine lv_iconst (v := 1) hx hb d_M_room_86 (by decide) ?_
                refine lv_goto (tgt := 91) hx hb d_M_room_87 (by decide) ?_
                refine W.eq ?_ J
                rw [k3]; rfl
              · refine lv_iload hx hb d_M_room_81 (lv_at hl 0 rfl) ?_
                refine bb_eq (tgt := 90) C d_M_room_83 (by decide) (fun k4 => ?_) (fun k4 => ?_)
                · refine lv_iconst (v := 0) hx hb d_M_room_90 (by decide) ?_
                  refine W.eq ?_ J
                  rw [k3, k4]; rfl
                · refine lv_iconst (v := 1) hx hb d_M_room_86 (by decide) ?_
                  refine lv_goto (tgt := 91) hx hb d_M_room_87 (by decide) ?_
                  refine W.eq ?_ J
                  rw [k3, k4]; rfl
          · refine lv_iload_n hx hb d_M_room_59 rfl (lv_at hl 2 rfl) ?_
            refine bb_ne (tgt := 74) C d_M_room_60 (by decide) (fun k3 => ?_) (fun k3 => ?_)
            · refine lv_iconst (v := 0) hx hb d_M_room_74 (by decide) ?_
              refine W.eq ?_ J
              rw [← hev, k3]; rfl
            · refine lv_aload_n hx hb d_M_room_63 rfl (lv_at hl 1 rfl) ?_
              refine mc_ROi C hI (c_M_uneven hG hR2 hB2) yv_M_uneven k_ml_M_91 rfl (by decide) rfl hl.1 rfl (Nat.le_of_ble_eq_true rfl) d_M_room_64 ⟨Nat.le_refl _, Nat.le_refl _⟩ (fun r hp => ?_)
              subst hp
              rw [hw]
              refine bb_eq (tgt := 74) C d_M_room_67 (by decide) (fun k4 => ?_) (fun k4 => ?_)
              · refine lv_iconst (v := 0) hx hb d_M_room_74 (by decide) ?_
                refine W.eq ?_ J
                rw [← hev, k3, k4]; rfl
              · refine lv_iconst (v := 1) hx hb d_M_room_70 (by decide) ?_
                refine lv_goto (tgt := 75) hx hb d_M_room_71 (by decide) ?_
                refine W.eq ?_ J
                rw [← hev, k3, k4]; rfl
      · have hf3 : fFree nb F1 ≤ nb := hfr
        refine bn_ge (tgt := 43) C (by omega) (by omega) d_M_room_36 (by decide) (fun k2 => ?_) (fun k2 => ?_)
        · refine lv_iconst (v := 0) hx hb d_M_room_43 (by decide) ?_
          refine W.eq ?_ J
          rw [decide_eq_false (by omega)]; rfl
        · refine lv_iconst (v := 1) hx hb d_M_room_39 (by decide) ?_
          refine lv_goto (tgt := 44) hx hb d_M_room_40 (by decide) ?_
          refine W.eq ?_ J
          rw [decide_eq_true (by omega)]; rfl
    · have done : noRoom F1 = false → sProv nb sp 3 false F = (true, F1) := by
        intro hn
        rw [← hs1]
        conv => lhs; unfold sProv
        rw [hn, if_neg (by decide)]
      refine lv_aload_n hx hb d_M_room_11 rfl (lv_at hl 0 rfl) ?_
      refine m_geti C hI 8 (by decide) k_fl_M_25 rfl rfl (hR1.op) d_M_room_12 ?_
      refine lv_iconst (v := -1) hx hb d_M_room_15 (by decide) ?_
      refine bo_eq (tgt := 31) C (fun j hj => by have := hB.op j hj; omega) d_M_room_16 (by decide) (fun k2 => ?_) (fun j16 k2 => ?_)
      · exact J (by unfold noRoom; rw [k2])
      · have hj := hB.op _ k2
        have hu := hB.us _ hj
        refine lv_aload_n hx hb d_M_room_19 rfl (lv_at hl 0 rfl) ?_
        refine lv_aload_n hx hb d_M_room_20 rfl (lv_at hl 0 rfl) ?_
        refine m_geti C hI 8 (by decide) k_fl_M_25 rfl rfl (show S1.1 8 = nI j16 by rw [hR1.op, k2]; rfl) d_M_room_21 ?_
        refine mc_ROi C hI (c_M_programmed hG hR1 hB hj) yv_M_programmed k_ml_M_56 rfl (by decide) rfl hl.1 rfl (Nat.le_of_ble_eq_true rfl) d_M_room_24 ⟨Nat.le_refl _, Nat.le_refl _⟩ (fun r hp => ?_)
        subst hp
        refine lv_iconst (v := nI 4) hx hb d_M_room_27 (by decide) ?_
        refine bn_ne (tgt := 122) C (by omega) (by omega) d_M_room_28 (by decide) (fun k3 => ?_) (fun k3 => ?_)
        · have hn : noRoom F1 = false := by unfold noRoom; rw [k2]; simp [k3]
          refine lv_iconst (v := 1) hx hb d_M_room_122 (by decide) ?_
          exact rt_RWz C hI hr hlk rfl ⟨by rw [done hn]; rfl, by rw [done hn]; exact hR1⟩ d_M_room_123
        · exact J (by unfold noRoom; rw [k2]; simp [k3])
theorem RM.shift {MI : Nat → Int32} {MA MA2 : Nat → Nat → Int32} {e : Nat × Int32 × Bool} {r : List (Nat × Int32 × Bool)} (h : RM nb sp F (MI, MA2)) (hb : fBf F = e :: r) (hk : ∀ k, k < 5 → MA k = MA2 k) (h5 : ∀ a, 5 ≤ a → a < 8 → ∀ q, q < r.length → MA a q = MA2 a (q + 1)) : RM nb sp (fSetBf F r) (va_up MI 12 (nI r.length), MA) := by
  refine ⟨h.nb, h.sp, h.nx, h.op, h.os, h.fu, rfl, ?_, ?_, ?_, fun k x hx => ?_⟩
  · show ∀ q, q < 4 * nb → MA 0 q = _
    rw [hk 0 (by omega)]; exact h.sc
  · show ∀ q, q < 4 * nb → _ → MA 1 q = _ ∧ MA 2 q = _ ∧ MA 3 q = _
    rw [hk 1 (by omega), hk 2 (by omega), hk 3 (by omega)]; exact h.pg
  · show ∀ b, b < nb → MA 4 b = _
    rw [hk 4 (by omega)]; exact h.er
  · have hx' : r[k]? = some x := hx
    have hl : k < r.length := (List.getElem?_eq_some_iff.mp hx').1
    show MA 5 k = _ ∧ MA 6 k = _ ∧ MA 7 k = _
    rw [h5 5 (by omega) (by omega) k hl, h5 6 (by omega) (by omega) k hl, h5 7 (by omega) (by omega) k hl]
    exact h.bf (k + 1) x (by rw [hb]; exact hx')
theorem c_M_store (hG : Geo ad 9) (hR : RM nb sp F S) (hO : StoreOK nb sp F) : RWi l D cs ad 9 (eM ad cs) y_M_store b_M_store 2 (some .boolean) 5 [.ref (ad 0)] S (fun r u => r = bI (sStore nb sp F).1 ∧ RM nb sp (sStore nb sp F).2 u) := by
  refine MC.intro (by decide) (Nat.le_of_ble_eq_true rfl) ?_
  intro p e s m below meth c C hr hlk hnm hH ls hl
  have hI : In D ad 9 s (eM ad cs S) s.heap [] := ⟨hG, hH, va_S.rf⟩
  have hx := C.1.1
  have hb := C.1.2.1
  obtain ⟨hne, hP, hO2⟩ := hO
  obtain ⟨e1, r1, hbf⟩ : ∃ e r, fBf F = e :: r := by
    cases h : fBf F with
    | nil => exact absurd h hne
    | cons e r => exact ⟨e, r, rfl⟩
  have hhd : hdB (fBf F) = e1 := by rw [hbf]; rfl
  have htl : (fBf F).tail = r1 := by rw [hbf]; rfl
  refine lv_aload_n hx hb d_M_store_0 rfl (lv_at hl 0 rfl) ?_
  refine mc_RWi C hI (c_M_room hG hR hP) yv_M_room k_ml_M_97 rfl (by decide) rfl hl.1 rfl (Nat.le_of_ble_eq_true rfl) d_M_store_1 ⟨Nat.le_refl _, Nat.le_refl _⟩ (fun r S1 H locs hp hI => ?_)
  obtain ⟨rfl, hR1⟩ := hp
  refine bb_eq (tgt := 32) C d_M_store_4 (by decide) (fun k1 => ?_) (fun k1 => ?_)
  · refine lv_iconst (v := 0) hx hb d_M_store_32 (by decide) ?_
    exact rt_RWz C hI hr hlk rfl ⟨by rw [sStore, if_neg (by rw [k1]; decide), k1]; rfl, by rw [sStore, if_neg (by rw [k1]; decide)]; exact hR1⟩ d_M_store_33
  · obtain ⟨hB1, hbf1, b, hop, hub⟩ := hO2 k1
    have hres : sStore nb sp F = if (sProg (sProv nb sp 3 false F).2 e1.1 e1.2.1 e1.2.2).1 then (true, fSetBf (sProg (sProv nb sp 3 false F).2 e1.1 e1.2.1 e1.2.2).2 r1) else sProg (sProv nb sp 3 false F).2 e1.1 e1.2.1 e1.2.2 := by
      rw [sStore, if_pos k1, hhd, htl]
    generalize hF1 : (sProv nb sp 3 false F).2 = F1 at hB1 hbf1 hop hub hres hR1
    have hbf2 : fBf F1 = e1 :: r1 := by rw [hbf1, hbf]
    have he0 := hR1.bf 0 e1 (by rw [hbf2]; rfl)
    have hs0 := hB1.bs 0 e1 (by rw [hbf2]; rfl)
    have hl3 := hB1.bl
    rw [hbf2, List.length_cons] at hl3
    refine lv_aload_n hx hb d_M_store_7 rfl (lv_at hl 0 rfl) ?_
    refine lv_aload_n hx hb d_M_store_8 rfl (lv_at hl 0 rfl) ?_
    refine m_getr C hI 13 (by decide) k_fl_M_29 rfl 6 rfl d_M_store_9 ?_
    refine lv_iconst (v := nI 0) hx hb d_M_store_12 (by decide) ?_
    refine m_ald C hI 5 (by omega) (i := 0) (show 0 < 3 by omega) he0.1 d_M_store_13 ?_
    refine lv_aload_n hx hb d_M_store_14 rfl (lv_at hl 0 rfl) ?_
    refine m_getr C hI 14 (by decide) k_fl_M_32 rfl 7 rfl d_M_store_15 ?_
    refine lv_iconst (v := nI 0) hx hb d_M_store_18 (by decide) ?_
    refine m_ald C hI 6 (by omega) (i := 0) (show 0 < 3 by omega) he0.2.1 d_M_store_19 ?_
    refine lv_aload_n hx hb d_M_store_20 rfl (lv_at hl 0 rfl) ?_
    refine m_getr C hI 15 (by decide) k_fl_M_35 rfl 8 rfl d_M_store_21 ?_
    refine lv_iconst (v := nI 0) hx hb d_M_store_24 (by decide) ?_
    refine m_ald C hI 7 (by omega) (i := 0) (show 0 < 3 by omega) he0.2.2 d_M_store_25 ?_
    refine mc_RWi C hI (c_M_put hG hR1 hB1 hop hub hs0 _ _) yv_M_put k_ml_M_80 rfl (by decide) rfl hl.1 rfl (Nat.le_of_ble_eq_true rfl) d_M_store_26 ⟨Nat.le_refl _, Nat.le_refl _⟩ (fun r S2 H locs hp hI => ?_)
    obtain ⟨rfl, hR2⟩ := hp
    have hbf3 : fBf (sProg F1 e1.1 e1.2.1 e1.2.2).2 = e1 :: r1 := by
      rw [← hbf2, sProg]; split <;> rfl
    refine bb_ne (tgt := 34) C d_M_store_29 (by decide) (fun k2 => ?_) (fun k2 => ?_)
    · rw [if_pos k2] at hres
      generalize hF2 : (sProg F1 e1.1 e1.2.1 e1.2.2).2 = F2 at hR2 hbf3 hres
      obtain ⟨MI2, MA2⟩ := S2
      refine lv_aload_n hx hb d_M_store_34 rfl (lv_at hl 0 rfl) ?_
      refine lv_dup hx hb d_M_store_35 rfl ?_
      refine m_geti C hI 12 (by decide) k_fl_M_100 rfl rfl (show MI2 12 = nI (r1.length + 1) by have h := hR2.bl; rw [hbf3] at h; exact h) d_M_store_36 ?_
      refine lv_iconst (v := nI 1) hx hb d_M_store_39 (by decide) ?_
      refine an_sub C (by omega) d_M_store_40 ?_
      refine m_puti C hI 12 (by omega) k_fl_M_100 rfl rfl rfl rfl d_M_store_41 (fun H locs MI hMI hI => ?_)
      have hrl : r1.length + 1 - 1 = r1.length := by omega
      rw [hrl] at hMI
      refine lv_iconst (v := nI 0) hx hb d_M_store_44 (by decide) ?_
      refine lv_istore_n (lv' := [(1, _), (0, _)]) hx hb d_M_store_45 rfl hl (by decide) rfl (fun ls hl => ?_)
      refine W_while (fun i => r1.length - i) (fun i H locs ls => i ≤ r1.length ∧ ∃ MA : Nat → Nat → Int32, (∀ k, k < 5 → MA k = MA2 k) ∧ (∀ a, 5 ≤ a → a < 8 → ∀ q, MA a q = if q < i then MA2 a (q + 1) else MA2 a q) ∧ In D ad 9 s (eM ad cs (MI, MA)) H locs ∧ lv_has ls 2 [(0, .ref (ad 0)), (1, .int (nI i))]) ?_ 0 ⟨by omega, MA2, fun _ _ => rfl, fun a _ _ q => by rw [if_neg (by omega)], hI, lv_sub hl [1, 0] rfl⟩
      intro i H locs ls ⟨hi, MA, hk, h5, hI, hl⟩ ih
      refine lv_iload_n hx hb d_M_store_46 rfl (lv_at hl 1 rfl) ?_
      refine lv_aload_n hx hb d_M_store_47 rfl (lv_at hl 0 rfl) ?_
      refine m_geti C hI 12 (by decide) k_fl_M_100 rfl rfl (show MI 12 = nI r1.length by rw [hMI]; rfl) d_M_store_48 ?_
      refine bn_ge (tgt := 102) C (by omega) (by omega) d_M_store_51 (by decide) (fun k3 => ?_) (fun k3 => ?_)
      · have hie : i = r1.length := by omega
        subst hie
        refine lv_iconst (v := 1) hx hb d_M_store_102 (by decide) ?_
        subst hMI
        exact rt_RWz C hI hr hlk rfl ⟨by rw [hres]; rfl, by rw [hres]; exact hR2.shift hbf3 hk (fun a ha hb q hq => by rw [h5 a ha hb q, if_pos hq])⟩ d_M_store_103
      · refine lv_aload_n hx hb d_M_store_54 rfl (lv_at hl 0 rfl) ?_
        refine m_getr C hI 13 (by decide) k_fl_M_29 rfl 6 rfl d_M_store_55 ?_
        refine lv_iload_n hx hb d_M_store_58 rfl (lv_at hl 1 rfl) ?_
        refine lv_aload_n hx hb d_M_store_59 rfl (lv_at hl 0 rfl) ?_
        refine m_getr C hI 13 (by decide) k_fl_M_29 rfl 6 rfl d_M_store_60 ?_
        refine lv_iload_n hx hb d_M_store_63 rfl (lv_at hl 1 rfl) ?_
        refine lv_iconst (v := nI 1) hx hb d_M_store_64 (by decide) ?_
        refine an_add C d_M_store_65 ?_
        refine m_ald C hI 5 (by omega) (i := i + 1) (show i + 1 < 3 by omega) rfl d_M_store_66 ?_
        refine m_ast C hI 5 (by omega) (i := i) (show i < 3 by omega) d_M_store_67 (fun H locs MB hMB hI => ?_)
        refine lv_aload_n hx hb d_M_store_68 rfl (lv_at hl 0 rfl) ?_
        refine m_getr C hI 14 (by decide) k_fl_M_32 rfl 7 rfl d_M_store_69 ?_
        refine lv_iload_n hx hb d_M_store_72 rfl (lv_at hl 1 rfl) ?_
        refine lv_aload_n hx hb d_M_store_73 rfl (lv_at hl 0 rfl) ?_
        refine m_getr C hI 14 (by decide) k_fl_M_32 rfl 7 rfl d_M_store_74 ?_
        refine lv_iload_n hx hb d_M_store_77 rfl (lv_at hl 1 rfl) ?_
        refine lv_iconst (v := nI 1) hx hb d_M_store_78 (by decide) ?_
        refine an_add C d_M_store_79 ?_
        refine m_ald C hI 6 (by omega) (i := i + 1) (show i + 1 < 3 by omega) rfl d_M_store_80 ?_
        refine m_ast C hI 6 (by omega) (i := i) (show i < 3 by omega) d_M_store_81 (fun H locs MC hMC hI => ?_)
        refine lv_aload_n hx hb d_M_store_82 rfl (lv_at hl 0 rfl) ?_
        refine m_getr C hI 15 (by decide) k_fl_M_35 rfl 8 rfl d_M_store_83 ?_
        refine lv_iload_n hx hb d_M_store_86 rfl (lv_at hl 1 rfl) ?_
        refine lv_aload_n hx hb d_M_store_87 rfl (lv_at hl 0 rfl) ?_
        refine m_getr C hI 15 (by decide) k_fl_M_35 rfl 8 rfl d_M_store_88 ?_
        refine lv_iload_n hx hb d_M_store_91 rfl (lv_at hl 1 rfl) ?_
        refine lv_iconst (v := nI 1) hx hb d_M_store_92 (by decide) ?_
        refine an_add C d_M_store_93 ?_
        refine m_ald C hI 7 (by omega) (i := i + 1) (show i + 1 < 3 by omega) rfl d_M_store_94 ?_
        refine m_ast C hI 7 (by omega) (i := i) (show i < 3 by omega) d_M_store_95 (fun H locs MD hMD hI => ?_)
        refine lv_iinc (lv' := [(1, _), (0, _)]) hx hb d_M_store_96 hl (k := 1) rfl (nI_inc _) (by decide) rfl (fun ls hl => ?_)
        refine lv_goto (tgt := 46) hx hb d_M_store_99 (by decide) ?_
        subst hMD hMC hMB
        refine ih (i + 1) _ _ _ (by omega) ⟨by omega, _, fun k hk5 => ?_, fun a ha hb q => ?_, hI, lv_sub hl [1, 0] rfl⟩
        · show va_up (va_up (va_up MA 5 _) 6 _) 7 _ k = _
          rw [va_up_ne _ _ (by omega), va_up_ne _ _ (by omega), va_up_ne _ _ (by omega)]
          exact hk k hk5
        · have key : ∀ f : Nat → Int32, (∀ q, f q = if q < i then MA2 a (q + 1) else MA2 a q) → va_up f i (f (i + 1)) q = if q < i + 1 then MA2 a (q + 1) else MA2 a q := by
            intro f hf
            by_cases z : q = i
            · subst z; rw [va_up_self, if_pos (by omega), hf, if_neg (by omega)]
            · rw [va_up_ne _ _ z, hf]
              by_cases z2 : q < i
              · rw [if_pos z2, if_pos (by omega)]
              · rw [if_neg z2, if_neg (by omega)]
          rcases (show a = 5 ∨ a = 6 ∨ a = 7 by omega) with rfl | rfl | rfl
          · exact key (MA 5) (h5 5 (by omega) (by omega))
          · exact key (MA 6) (h5 6 (by omega) (by omega))
          · exact key (MA 7) (h5 7 (by omega) (by omega))
    · rw [if_neg (by rw [k2]; decide)] at hres
      refine lv_iconst (v := 0) hx hb d_M_store_32 (by decide) ?_
      exact rt_RWz C hI hr hlk rfl ⟨by rw [hres, k2]; rfl, by rw [hres]; exact hR2⟩ d_M_store_33
end MC2
end
section
/-! THE TWIN: cut, find, change, and what is asked -/
def sRead (nb : Nat) (F : Fl) (x : Int32) : Int32 := match inR (4 * (nb - 3)) x with
  | none => 0
  | some q => match bfI (fBf F) q with
    | some k => ((fBf F).getD k (0, 0, false)).2.1
    | none => match fNew nb F q with
      | none => 0
      | some p => fVl F p
def sHolds (nb : Nat) (F : Fl) (x : Int32) : Int32 := match inR (4 * (nb - 3)) x with
  | none => 0
  | some q => match bfI (fBf F) q with
    | some k => sI ((fBf F).getD k (0, 0, false)).2.2
    | none => match fNew nb F q with
      | none => 0
      | some p => sI (fTr F p)
def sPlace (nb : Nat) (F : Fl) (x : Int32) : Int32 := match inR (4 * (nb - 3)) x with
  | none => -1
  | some q => oI (fNew nb F q)
def sTag (nb : Nat) (F : Fl) (x : Int32) : Int32 := match inR (4 * nb) x with
  | none => -1
  | some p => if prg F p then nI (fSc F p) else -1
def sSerial (nb : Nat) (F : Fl) (x : Int32) : Int32 := match inR (4 * nb) x with
  | none => -1
  | some p => if prg F p then nI (fSr F p) else -1
def sValid (nb : Nat) (F : Fl) (x : Int32) : Int32 := match inR nb x with
  | none => -1
  | some b => nI (fVin nb F b)
def sErasures (nb : Nat) (F : Fl) (x : Int32) : Int32 := match inR nb x with
  | none => -1
  | some b => nI (fEr F b)
def sFuse (F : Fl) (x : Int32) : Bool × Fl := match inR 1001 x with
  | none => (false, F)
  | some n => (true, fSetFu F n)
def sChg (nb sp : Nat) (F : Fl) (x v : Int32) (t : Bool) : Int32 × Fl := match inR (4 * (nb - 3)) x with
  | none => (-1, F)
  | some q => (nI (sPut nb sp F q v t).1, (sPut nb sp F q v t).2)
def ChgOK (nb sp : Nat) (F : Fl) (x : Int32) : Prop := WB nb sp F ∧ ∀ q, inR (4 * (nb - 3)) x = some q → PutOK nb sp F q
theorem bfI_some {l : List (Nat × Int32 × Bool)} {q k : Nat} (h : bfI l q = some k) : k < l.length := by
  unfold bfI at h
  obtain ⟨hk, -⟩ := List.findIdx?_eq_some_iff_getElem.mp h
  exact hk
theorem bfI_at {l : List (Nat × Int32 × Bool)} {q k : Nat} {e : Nat × Int32 × Bool} (he : l[k]? = some e) (hq : e.1 = q) (hn : ∀ j, j < k → ∀ x, l[j]? = some x → x.1 ≠ q) : bfI l q = some k := by
  unfold bfI
  rw [List.findIdx?_eq_some_iff_getElem]
  obtain ⟨hk, h2⟩ := List.getElem?_eq_some_iff.mp he
  refine ⟨hk, by rw [h2]; simp [hq], fun j hj => ?_⟩
  have := hn j hj _ (List.getElem?_eq_getElem (by omega))
  simpa using this
theorem bfI_no {l : List (Nat × Int32 × Bool)} {q : Nat} (hn : ∀ j, j < l.length → ∀ x, l[j]? = some x → x.1 ≠ q) : bfI l q = none := by
  unfold bfI
  rw [List.findIdx?_eq_none_iff]
  intro x hx
  obtain ⟨j, hj⟩ := List.getElem?_of_mem hx
  have := hn j (List.getElem?_eq_some_iff.mp hj).1 x hj
  simpa using this
section MT
variable {l : Launch} {D : va_G} {cs : Nat → ClassId} {ad : Nat → Nat} {nb sp : Nat} {F : Fl} {S : SM}
theorem isSome_f {α : Type} {o : Option α} (h : o.isSome = false) : o = none := by cases o; rfl; cases h
theorem isSome_t {α : Type} {o : Option α} (h : o.isSome = true) : ∃ j, o = some j := by cases o with | none => cases h | some j => exact ⟨j, rfl⟩
theorem c_M_find (hG : Geo ad 9) (hR : RM nb sp F S) (hB : WB nb sp F) {q : Nat} (hq : q < 4 * (nb - 3)) : ROi l D cs ad 9 (eM ad cs S) y_M_find b_M_find 3 (some .int) 0 [.ref (ad 0), .int (nI q)] (fun r => r = oI (bfI (fBf F) q)) := by
  refine MC.intro (by decide) (Nat.le_of_ble_eq_true rfl) ?_
  intro p e s m below meth c C hr hlk hnm hH ls hl
  have hI : In D ad 9 s (eM ad cs S) s.heap [] := ⟨hG, hH, va_S.rf⟩
  have hx := C.1.1
  have hb := C.1.2.1
  have h1 := hB.nb
  have h2 := hB.bl
  refine lv_iconst (v := nI 0) hx hb d_M_find_0 (by decide) ?_
  refine lv_istore_n (lv' := [(2, _), (0, _), (1, _)]) hx hb d_M_find_1 rfl hl (by decide) rfl (fun ls hl => ?_)
  refine W_while (fun i => (fBf F).length - i) (fun i H locs ls => i ≤ (fBf F).length ∧ H = s.heap ∧ locs = [] ∧ (∀ j, j < i → ∀ x, (fBf F)[j]? = some x → x.1 ≠ q) ∧ lv_has ls 3 [(0, .ref (ad 0)), (1, .int (nI q)), (2, .int (nI i))]) ?_ 0 ⟨by omega, rfl, rfl, fun j hj => by omega, lv_sub hl [1, 2, 0] rfl⟩
  intro i H locs ls ⟨hi, hH1, hL1, hn, hl⟩ ih
  subst hH1 hL1
  refine lv_iload_n hx hb d_M_find_2 rfl (lv_at hl 2 rfl) ?_
  refine lv_aload_n hx hb d_M_find_3 rfl (lv_at hl 0 rfl) ?_
  refine m_geti C hI 12 (by decide) k_fl_M_100 rfl rfl (hR.bl) d_M_find_4 ?_
  refine bn_ge (tgt := 28) C (by omega) (by omega) d_M_find_7 (by decide) (fun k1 => ?_) (fun k1 => ?_)
  · refine lv_iconst (v := -1) hx hb d_M_find_28 (by decide) ?_
    have hie : i = (fBf F).length := by omega
    exact rt_ROi C hr hlk (by rw [bfI_no (fun j hj => hn j (by omega))]; rfl) d_M_find_29
  · have he : (fBf F)[i]? = some (fBf F)[i] := List.getElem?_eq_getElem k1
    have hs0 := hB.bs _ _ he
    refine lv_aload_n hx hb d_M_find_10 rfl (lv_at hl 0 rfl) ?_
    refine m_getr C hI 13 (by decide) k_fl_M_29 rfl 6 rfl d_M_find_11 ?_
    refine lv_iload_n hx hb d_M_find_14 rfl (lv_at hl 2 rfl) ?_
    refine m_ald C hI 5 (by omega) (i := i) (show i < 3 by omega) (hR.bf _ _ he).1 d_M_find_15 ?_
    refine lv_iload_n hx hb d_M_find_16 rfl (lv_at hl 1 rfl) ?_
    refine bn_ne (tgt := 22) C (by omega) (by omega) d_M_find_17 (by decide) (fun k2 => ?_) (fun k2 => ?_)
    · refine lv_iinc (lv' := [(2, _), (0, _), (1, _)]) hx hb d_M_find_22 hl (k := 2) rfl (nI_inc _) (by decide) rfl (fun ls hl => ?_)
      refine lv_goto (tgt := 2) hx hb d_M_find_25 (by decide) ?_
      exact ih (i + 1) _ _ _ (by omega) ⟨by omega, rfl, rfl, fun j hj x hx => by
        rcases (show j < i ∨ j = i by omega) with z | z
        · exact hn j z x hx
        · subst z; rw [he] at hx; cases hx; exact k2, lv_sub hl [1, 2, 0] rfl⟩
    · refine lv_iload_n hx hb d_M_find_20 rfl (lv_at hl 2 rfl) ?_
      exact rt_ROi C hr hlk (by rw [bfI_at he k2 hn]; rfl) d_M_find_21
theorem RM.gone (h : RM nb sp F S) (g : Int32) : RM nb sp F (va_up S.1 11 g, S.2) := ⟨h.nb, h.sp, h.nx, h.op, h.os, h.fu, h.bl, h.sc, h.pg, h.er, h.bf⟩
theorem lstP_lt (F : Fl) : ∀ {k j : Nat}, lstP F k = some j → j < k
  | 0, j, h => by cases h
  | k + 1, j, h => by
    unfold lstP at h
    split at h
    · cases h; omega
    · have := lstP_lt F h; omega
theorem nxM_le {F : Fl} {B N : Nat} (h : ∀ p, p < N → prg F p = true → fSr F p < B) : ∀ k, k ≤ N → nxM F k ≤ B
  | 0, _ => Nat.zero_le _
  | k + 1, hk => by
    unfold nxM
    split
    · rename_i hh; have := h k (by omega) hh.1; omega
    · exact nxM_le h k (by omega)
theorem c_M_cut (hG : Geo ad 9) (hR : RM nb sp F S) (hO : LostOK nb sp F) : RWv l D cs ad 9 (eM ad cs) y_M_cut b_M_cut 3 none 4 [.ref (ad 0)] S (fun u => RM nb sp (sLost nb F) u) := by
  refine MC.intro (by decide) (Nat.le_of_ble_eq_true rfl) ?_
  intro p e s m below meth c C hr hlk hnm hH ls hl
  have hI : In D ad 9 s (eM ad cs S) s.heap [] := ⟨hG, hH, va_S.rf⟩
  have hx := C.1.1
  have hb := C.1.2.1
  obtain ⟨hB, hB2, hO2⟩ := hO
  have h1 := hB.nb
  have hnx := hB.nx
  obtain ⟨SI, SA⟩ := S
  refine lv_aload_n hx hb d_M_cut_0 rfl (lv_at hl 0 rfl) ?_
  refine lv_iconst (v := nI 1) hx hb d_M_cut_1 (by decide) ?_
  refine m_puti C hI 11 (by omega) k_fl_M_66 rfl rfl rfl rfl d_M_cut_2 (fun H locs M1 hM1 hI => ?_)
  refine lv_aload_n hx hb d_M_cut_5 rfl (lv_at hl 0 rfl) ?_
  refine m_geti C hI 11 (by decide) k_fl_M_66 rfl rfl (show M1 11 = nI 1 by rw [hM1]; rfl) d_M_cut_6 ?_
  refine bz_eq (tgt := 177) C (by omega) d_M_cut_9 (by decide) (fun k1 => ?_) (fun k1 => ?_)
  · omega
  · refine lv_aload_n hx hb d_M_cut_12 rfl (lv_at hl 0 rfl) ?_
    refine lv_iconst (v := nI 0) hx hb d_M_cut_13 (by decide) ?_
    refine m_puti C hI 11 (by omega) k_fl_M_66 rfl rfl rfl rfl d_M_cut_14 (fun H locs M2 hM2 hI => ?_)
    refine lv_aload_n hx hb d_M_cut_17 rfl (lv_at hl 0 rfl) ?_
    refine lv_iconst (v := nI 0) hx hb d_M_cut_18 (by decide) ?_
    refine m_puti C hI 12 (by omega) k_fl_M_100 rfl rfl rfl rfl d_M_cut_19 (fun H locs M3 hM3 hI => ?_)
    refine lv_aload_n hx hb d_M_cut_22 rfl (lv_at hl 0 rfl) ?_
    refine lv_iconst (v := -1) hx hb d_M_cut_23 (by decide) ?_
    refine m_puti C hI 8 (by omega) k_fl_M_25 rfl rfl rfl rfl d_M_cut_24 (fun H locs M4 hM4 hI => ?_)
    refine lv_aload_n hx hb d_M_cut_27 rfl (lv_at hl 0 rfl) ?_
    refine lv_iconst (v := nI 0) hx hb d_M_cut_28 (by decide) ?_
    refine m_puti C hI 7 (by omega) k_fl_M_77 rfl rfl rfl rfl d_M_cut_29 (fun H locs M5 hM5 hI => ?_)
    have g0 : M5 0 = nI nb := by rw [hM5, hM4, hM3, hM2, hM1]; exact hR.nb
    have g1 : M5 1 = nI sp := by rw [hM5, hM4, hM3, hM2, hM1]; exact hR.sp
    have g7 : M5 7 = nI 0 := by rw [hM5]; rfl
    have g8 : M5 8 = -1 := by rw [hM5, hM4]; rfl
    have g9 : M5 9 = nI (fOs F) := by rw [hM5, hM4, hM3, hM2, hM1]; exact hR.os
    have g10 : M5 10 = nI (fFu F) := by rw [hM5, hM4, hM3, hM2, hM1]; exact hR.fu
    have g12 : M5 12 = nI 0 := by rw [hM5, hM4, hM3]; rfl
    refine lv_iconst (v := nI 0) hx hb d_M_cut_32 (by decide) ?_
    refine lv_istore_n (lv' := [(1, _), (0, _)]) hx hb d_M_cut_33 rfl hl (by decide) rfl (fun ls hl => ?_)
    refine W_while (fun i => nb - i) (fun i H locs ls => i ≤ nb ∧ ∃ MI : Nat → Int32, (∀ k, k ≠ 8 → MI k = M5 k) ∧ MI 8 = oI (lstP F i) ∧ In D ad 9 s (eM ad cs (MI, SA)) H locs ∧ lv_has ls 3 [(0, .ref (ad 0)), (1, .int (nI i))]) ?_ 0 ⟨by omega, M5, fun _ _ => rfl, g8, hI, lv_sub hl [1, 0] rfl⟩
    intro i H locs ls ⟨hi, MI, hk, h8, hI, hl⟩ ih
    refine lv_iload_n hx hb d_M_cut_34 rfl (lv_at hl 1 rfl) ?_
    refine lv_aload_n hx hb d_M_cut_35 rfl (lv_at hl 0 rfl) ?_
    refine m_geti C hI 0 (by decide) k_fl_M_38 rfl rfl (show MI 0 = nI nb by rw [hk 0 (by decide)]; exact g0) d_M_cut_36 ?_
    refine bn_ge (tgt := 75) C (by omega) (by omega) d_M_cut_39 (by decide) (fun k2 => ?_) (fun k2 => ?_)
    · have hie : i = nb := by omega
      subst hie
      clear ih
      refine lv_iconst (v := nI 0) hx hb d_M_cut_75 (by decide) ?_
      refine lv_istore_n (lv' := [(1, _), (0, _)]) hx hb d_M_cut_76 rfl hl (by decide) rfl (fun ls hl => ?_)
      refine W_while (fun j => 4 * i - j) (fun j H locs ls => j ≤ 4 * i ∧ ∃ MJ : Nat → Int32, (∀ k, k ≠ 7 → MJ k = MI k) ∧ MJ 7 = nI (nxM F j) ∧ In D ad 9 s (eM ad cs (MJ, SA)) H locs ∧ lv_has ls 3 [(0, .ref (ad 0)), (1, .int (nI j))]) ?_ 0 ⟨by omega, MI, fun _ _ => rfl, by rw [hk 7 (by decide)]; exact g7, hI, lv_sub hl [1, 0] rfl⟩
      intro j H locs ls ⟨hj, MJ, hkj, h7, hI, hl⟩ ih
      refine lv_iload_n hx hb d_M_cut_77 rfl (lv_at hl 1 rfl) ?_
      refine lv_iconst (v := nI 4) hx hb d_M_cut_78 (by decide) ?_
      refine lv_aload_n hx hb d_M_cut_79 rfl (lv_at hl 0 rfl) ?_
      refine m_geti C hI 0 (by decide) k_fl_M_38 rfl rfl (show MJ 0 = nI i by rw [hkj 0 (by decide), hk 0 (by decide)]; exact g0) d_M_cut_80 ?_
      refine an_mul C d_M_cut_83 ?_
      refine bn_ge (tgt := 135) C (by omega) (by omega) d_M_cut_84 (by decide) (fun k3 => ?_) (fun k3 => ?_)
      · have hje : j = 4 * i := by omega
        subst hje
        have hR2 : RM i sp (sReb i F) (MJ, SA) := ⟨by show MJ 0 = _; rw [hkj 0 (by decide), hk 0 (by decide)]; exact g0, by show MJ 1 = _; rw [hkj 1 (by decide), hk 1 (by decide)]; exact g1, h7, by show MJ 8 = _; rw [hkj 8 (by decide)]; exact h8, by show MJ 9 = _; rw [hkj 9 (by decide), hk 9 (by decide)]; exact g9, by show MJ 10 = _; rw [hkj 10 (by decide), hk 10 (by decide)]; exact g10, by show MJ 12 = _; rw [hkj 12 (by decide), hk 12 (by decide)]; exact g12, hR.sc, hR.pg, hR.er, fun k e h => by cases h⟩
        have hfr := cnt_le (fun b => fUs (sReb i F) b == 0) i
        have hf3 : fFree i (sReb i F) ≤ i := hfr
        refine W_atH (pc2 := 155) (st2 := []) (fun H locs ls => ∃ S9, RM i sp (sLost i F) S9 ∧ In D ad 9 s (eM ad cs S9) H locs ∧ lv_has ls 3 [(0, .ref (ad 0))]) ?_ (fun J => ?_)
        · intro H locs ls ⟨S9, hR9, hI, hl⟩
          refine lv_iconst (v := bI true) hx hb d_M_cut_155 (by decide) ?_
          refine lv_goto (tgt := 160) hx hb d_M_cut_156 (by decide) ?_
          refine lv_istore_n (lv' := [(1, _), (0, _)]) hx hb d_M_cut_160 rfl hl (by decide) rfl (fun ls hl => ?_)
          refine lv_aload_n hx hb d_M_cut_161 rfl (lv_at hl 1 rfl) ?_
          refine lv_iload_n hx hb d_M_cut_162 rfl (lv_at hl 0 rfl) ?_
          refine bb_ne (tgt := 170) C d_M_cut_163 (by decide) (fun k4 => ?_) (fun k4 => ?_)
          · refine lv_iconst (v := bI false) hx hb d_M_cut_170 (by decide) ?_
            refine m_puti C hI 11 (by omega) k_fl_M_66 rfl rfl rfl rfl d_M_cut_171 (fun H locs MZ hMZ hI => ?_)
            refine lv_goto (tgt := 5) hx hb d_M_cut_174 (by decide) ?_
            refine lv_aload_n hx hb d_M_cut_5 rfl (lv_at hl 1 rfl) ?_
            refine m_geti C hI 11 (by decide) k_fl_M_66 rfl rfl (show MZ 11 = nI 0 by rw [hMZ]; rfl) d_M_cut_6 ?_
            refine bz_eq (tgt := 177) C (by omega) d_M_cut_9 (by decide) (fun k5 => ?_) (fun k5 => ?_)
            · subst hMZ
              exact rt_RWv C hI hr hlk (hR9.gone _) d_M_cut_177
            · omega
          · cases k4
        · refine lv_aload_n hx hb d_M_cut_135 rfl (lv_at hl 0 rfl) ?_
          refine mc_ROi C hI (c_M_freeBlocks hG hR2 hB2) yv_M_freeBlocks k_ml_M_84 rfl (by decide) rfl hl.1 rfl (Nat.le_of_ble_eq_true rfl) d_M_cut_136 ⟨Nat.le_refl _, Nat.le_refl _⟩ (fun r hp => ?_)
          subst hp
          refine bz_gt (tgt := 155) C (by omega) d_M_cut_139 (by decide) (fun k4 => ?_) (fun k4 => ?_)
          · exact J _ _ _ ⟨_, by rw [sLost, if_neg (by omega)]; exact hR2, hI, lv_sub hl [0] rfl⟩
          · obtain ⟨hp4, hC, hc1⟩ := hO2 k4
            refine lv_aload_n hx hb d_M_cut_142 rfl (lv_at hl 0 rfl) ?_
            refine lv_aload_n hx hb d_M_cut_143 rfl (lv_at hl 0 rfl) ?_
            refine lv_iconst (v := nI 4) hx hb d_M_cut_144 (by decide) ?_
            refine lv_iconst (v := bI true) hx hb d_M_cut_145 (by decide) ?_
            refine mc_ROi C hI (c_M_pick hG hR2 hB2 (g := 4) (by omega) true) yv_M_pick k_ml_M_87 rfl (by decide) rfl hl.1 rfl (Nat.le_of_ble_eq_true rfl) d_M_cut_146 ⟨Nat.le_refl _, Nat.le_refl _⟩ (fun r hp => ?_)
            subst hp
            rw [oI_get hp4]
            refine mc_RWi C hI (c_M_collect hG hR2 hC) yv_M_collect k_ml_M_94 rfl (by decide) rfl hl.1 rfl (Nat.le_of_ble_eq_true rfl) d_M_cut_149 ⟨Nat.le_refl _, Nat.le_refl _⟩ (fun r S3 H locs hp hI => ?_)
            obtain ⟨rfl, hR3⟩ := hp
            rw [hc1]
            refine bb_eq (tgt := 159) C d_M_cut_152 (by decide) (fun k5 => ?_) (fun k5 => ?_)
            · cases k5
            · exact J _ _ _ ⟨_, by rw [sLost, if_pos k4]; exact hR3, hI, lv_sub hl [0] rfl⟩
      · refine W_at (g2 := F0 m 126 ls [.int (nI (nxM F (j + 1))), .ref (ad 0)]) ?_ (fun J => ?_)
        · refine m_puti C hI 7 (by omega) k_fl_M_77 rfl rfl rfl rfl d_M_cut_126 (fun H locs MK hMK hI => ?_)
          refine lv_iinc (lv' := [(1, _), (0, _)]) hx hb d_M_cut_129 hl (k := 1) rfl (nI_inc _) (by decide) rfl (fun ls hl => ?_)
          refine lv_goto (tgt := 77) hx hb d_M_cut_132 (by decide) ?_
          exact ih (j + 1) _ _ _ (by omega) ⟨by omega, MK, fun k hk7 => by rw [hMK]; show va_up MJ 7 _ k = _; rw [va_up_ne _ _ hk7]; exact hkj k hk7, by rw [hMK]; rfl, hI, lv_sub hl [1, 0] rfl⟩
        · have hj4 : j < 4 * i := by omega
          have hle := nxM_le (fun p hp => hB.sr p hp) j (by omega)
          refine W_if (P := nxM F (j + 1) = nxM F j) (g2 := F0 m 122 ls [.ref (ad 0)]) (fun hee => ?_) (fun J2 => ?_)
          · refine lv_aload_n hx hb d_M_cut_122 rfl (lv_at hl 0 rfl) ?_
            refine m_geti C hI 7 (by decide) k_fl_M_77 rfl rfl (h7) d_M_cut_123 ?_
            rw [← hee]
            exact J
          · refine lv_aload_n hx hb d_M_cut_87 rfl (lv_at hl 0 rfl) ?_
            refine lv_aload_n hx hb d_M_cut_88 rfl (lv_at hl 0 rfl) ?_
            refine m_getr C hI 2 (by decide) k_fl_M_7 rfl 1 rfl d_M_cut_89 ?_
            refine lv_iload_n hx hb d_M_cut_92 rfl (lv_at hl 1 rfl) ?_
            refine m_ald C hI 0 (by omega) (i := j) (show j < 48 by omega) (hR.sc _ hj4) d_M_cut_93 ?_
            refine lv_iconst (v := -1) hx hb d_M_cut_94 (by decide) ?_
            by_cases hp : prg F j = true
            · rw [if_pos hp]
              have hs0 := hB.sc j hj4 hp
              have hs1 := hB.sr j hj4 hp
              refine lv_icmp_eq (tgt := 122) hx hb d_M_cut_95 (by decide) (fun k4 => ?_) (fun k4 => ?_)
              · exact absurd k4 (nI_nem1 (by omega))
              · refine lv_aload_n hx hb d_M_cut_98 rfl (lv_at hl 0 rfl) ?_
                refine m_getr C hI 4 (by decide) k_fl_M_16 rfl 3 rfl d_M_cut_99 ?_
                refine lv_iload_n hx hb d_M_cut_102 rfl (lv_at hl 1 rfl) ?_
                refine m_ald C hI 2 (by omega) (i := j) (show j < 48 by omega) (hR.pg _ hj4 hp).2.1 d_M_cut_103 ?_
                refine lv_aload_n hx hb d_M_cut_104 rfl (lv_at hl 0 rfl) ?_
                refine m_geti C hI 7 (by decide) k_fl_M_77 rfl rfl (h7) d_M_cut_105 ?_
                refine bn_lt (tgt := 122) C (by omega) (by omega) d_M_cut_108 (by decide) (fun k5 => ?_) (fun k5 => ?_)
                · exact J2 (by rw [nxM, if_neg (by omega)])
                · refine lv_aload_n hx hb d_M_cut_111 rfl (lv_at hl 0 rfl) ?_
                  refine m_getr C hI 4 (by decide) k_fl_M_16 rfl 3 rfl d_M_cut_112 ?_
                  refine lv_iload_n hx hb d_M_cut_115 rfl (lv_at hl 1 rfl) ?_
                  refine m_ald C hI 2 (by omega) (i := j) (show j < 48 by omega) (hR.pg _ hj4 hp).2.1 d_M_cut_116 ?_
                  refine lv_iconst (v := nI 1) hx hb d_M_cut_117 (by decide) ?_
                  refine an_add C d_M_cut_118 ?_
                  refine lv_goto (tgt := 126) hx hb d_M_cut_119 (by decide) ?_
                  refine W.eq ?_ J
                  rw [nxM, if_pos ⟨hp, k5⟩]
            · rw [if_neg hp]
              refine lv_icmp_eq (tgt := 122) hx hb d_M_cut_95 (by decide) (fun k4 => ?_) (fun k4 => ?_)
              · exact J2 (by rw [nxM, if_neg (by intro z; exact hp z.1)])
              · exact absurd rfl k4
    · have hu := hB.us i (by omega)
      refine lv_aload_n hx hb d_M_cut_42 rfl (lv_at hl 0 rfl) ?_
      refine lv_iload_n hx hb d_M_cut_43 rfl (lv_at hl 1 rfl) ?_
      refine mc_ROi C hI (c_M_programmed0 (S := (MI, SA)) hG h1 hR.sc hB.sc (b := i) (by omega) hu) yv_M_programmed k_ml_M_56 rfl (by decide) rfl hl.1 rfl (Nat.le_of_ble_eq_true rfl) d_M_cut_44 ⟨Nat.le_refl _, Nat.le_refl _⟩ (fun r hp => ?_)
      subst hp
      refine lv_istore_n (lv' := [(2, _), (0, _), (1, _)]) hx hb d_M_cut_47 rfl hl (by decide) rfl (fun ls hl => ?_)
      refine lv_aload_n hx hb d_M_cut_48 rfl (lv_at hl 1 rfl) ?_
      refine lv_iload_n hx hb d_M_cut_49 rfl (lv_at hl 0 rfl) ?_
      refine W_at (g2 := F0 m 66 ls [.int (oI (lstP F (i + 1))), .ref (ad 0)]) ?_ (fun J => ?_)
      · refine m_puti C hI 8 (by omega) k_fl_M_25 rfl rfl rfl rfl d_M_cut_66 (fun H locs MK hMK hI => ?_)
        refine lv_iinc (lv' := [(1, _), (2, _), (0, _)]) hx hb d_M_cut_69 hl (k := 2) rfl (nI_inc _) (by decide) rfl (fun ls hl => ?_)
        refine lv_goto (tgt := 34) hx hb d_M_cut_72 (by decide) ?_
        exact ih (i + 1) _ _ _ (by omega) ⟨by omega, MK, fun k hk8 => by rw [hMK]; show va_up MI 8 _ k = _; rw [va_up_ne _ _ hk8]; exact hk k hk8, by rw [hMK]; rfl, hI, lv_sub hl [2, 0] rfl⟩
      · refine W_if (P := lstP F (i + 1) = lstP F i) (g2 := F0 m 62 ls [.ref (ad 0)]) (fun hee => ?_) (fun J2 => ?_)
        · refine lv_aload_n hx hb d_M_cut_62 rfl (lv_at hl 1 rfl) ?_
          refine m_geti C hI 8 (by decide) k_fl_M_25 rfl rfl (h8) d_M_cut_63 ?_
          rw [← hee]
          exact J
        · refine bz_le (tgt := 62) C (by omega) d_M_cut_50 (by decide) (fun k3 => ?_) (fun k3 => ?_)
          · exact J2 (by rw [lstP, if_neg (by omega)])
          · refine lv_iload_n hx hb d_M_cut_53 rfl (lv_at hl 0 rfl) ?_
            refine lv_iconst (v := nI 4) hx hb d_M_cut_54 (by decide) ?_
            refine bn_ge (tgt := 62) C (by omega) (by omega) d_M_cut_55 (by decide) (fun k4 => ?_) (fun k4 => ?_)
            · exact J2 (by rw [lstP, if_neg (by omega)])
            · refine lv_iload_n hx hb d_M_cut_58 rfl (lv_at hl 2 rfl) ?_
              refine lv_goto (tgt := 66) hx hb d_M_cut_59 (by decide) ?_
              refine W.eq ?_ J
              rw [lstP, if_pos ⟨k3, k4⟩]; rfl
theorem RM.fuse (h : RM nb sp F S) (n : Nat) : RM nb sp (fSetFu F n) (va_up S.1 10 (nI n), S.2) := ⟨h.nb, h.sp, h.nx, h.op, h.os, rfl, h.bl, h.sc, h.pg, h.er, h.bf⟩
theorem c_M_fuse (hG : Geo ad 9) (hR : RM nb sp F S) (x : Int32) : RWi l D cs ad 9 (eM ad cs) y_M_fuse b_M_fuse 2 (some .boolean) 0 [.ref (ad 0), .int x] S (fun r u => r = bI (sFuse F x).1 ∧ RM nb sp (sFuse F x).2 u) := by
  refine MC.intro (by decide) (Nat.le_of_ble_eq_true rfl) ?_
  intro p e s m below meth c C hr hlk hnm hH ls hl
  have hI : In D ad 9 s (eM ad cs S) s.heap [] := ⟨hG, hH, va_S.rf⟩
  have hx := C.1.1
  have hb := C.1.2.1
  refine W_if (P := inR 1001 x = none) (g2 := F0 m 11 ls []) (fun hn => ?_) (fun J => ?_)
  · refine lv_iconst (v := 0) hx hb d_M_fuse_11 (by decide) ?_
    exact rt_RWz C hI hr hlk rfl ⟨by rw [sFuse, hn]; rfl, by rw [sFuse, hn]; exact hR⟩ d_M_fuse_12
  · refine lv_iload_n hx hb d_M_fuse_0 rfl (lv_at hl 1 rfl) ?_
    refine lv_if_lt (tgt := 11) hx hb d_M_fuse_1 (by decide) (fun k1 => ?_) (fun k1 => ?_)
    · exact J (inR_neg k1)
    · refine lv_iload_n hx hb d_M_fuse_4 rfl (lv_at hl 1 rfl) ?_
      refine lv_sipush (v := nI 1000) hx hb d_M_fuse_5 (by decide) ?_
      refine lv_icmp_le (tgt := 13) hx hb d_M_fuse_8 (by decide) (fun k2 => ?_) (fun k2 => ?_)
      · obtain ⟨j, hj, rfl, e1⟩ := inR_ok (N := 1001) (by omega) k1 (by
          intro z
          have z1 := Int32.le_trans z k2
          exact absurd z1 (by decide))
        refine lv_aload_n hx hb d_M_fuse_13 rfl (lv_at hl 0 rfl) ?_
        refine lv_iload_n hx hb d_M_fuse_14 rfl (lv_at hl 1 rfl) ?_
        refine m_puti C hI 10 (by omega) k_fl_M_63 rfl rfl rfl rfl d_M_fuse_15 (fun H locs MI hMI hI => ?_)
        refine lv_iconst (v := 1) hx hb d_M_fuse_18 (by decide) ?_
        subst hMI
        exact rt_RWz C hI hr hlk rfl ⟨by rw [sFuse, e1]; rfl, by rw [sFuse, e1]; exact hR.fuse j⟩ d_M_fuse_19
      · refine J ?_
        rcases pk_ix x (n := 1001) (by omega) with z | z | ⟨j, hj, rfl⟩
        · exact absurd z k1
        · exact inR_big (by omega) z
        · exact absurd (nI_le (show j ≤ 1000 by omega) (by omega)) k2
theorem RM.setBf {k : Nat} {e : Nat × Int32 × Bool} {bf : List (Nat × Int32 × Bool)} (h : RM nb sp F S) (hb : ∀ (j : Nat) (x : Nat × Int32 × Bool), bf[j]? = some x → (j = k ∧ x = e) ∨ (j ≠ k ∧ (fBf F)[j]? = some x)) (n : Int32) (hn : n = nI bf.length) : RM nb sp (fSetBf F bf) (va_up S.1 12 n, up2 (up2 (up2 S.2 5 k (nI e.1)) 6 k e.2.1) 7 k (sI e.2.2)) := by
  refine ⟨h.nb, h.sp, h.nx, h.op, h.os, h.fu, hn, h.sc, h.pg, h.er, fun j x hx => ?_⟩
  show va_up (S.2 5) k (nI e.1) j = nI x.1 ∧ va_up (S.2 6) k e.2.1 j = x.2.1 ∧ va_up (S.2 7) k (sI e.2.2) j = sI x.2.2
  rcases hb j x hx with ⟨rfl, rfl⟩ | ⟨hne, hx2⟩
  · rw [va_up_self, va_up_self, va_up_self]; exact ⟨rfl, rfl, rfl⟩
  · rw [va_up_ne _ _ hne, va_up_ne _ _ hne, va_up_ne _ _ hne]
    exact h.bf j x hx2
theorem va_up_id {α : Type} (f : Nat → α) (k : Nat) : va_up f k (f k) = f := by
  funext j
  by_cases h : j = k
  · subst h; rw [va_up_self]
  · rw [va_up_ne _ _ h]
theorem c_M_change (hG : Geo ad 9) (hR : RM nb sp F S) (x v : Int32) (t : Bool) (hO : ChgOK nb sp F x) : RWi l D cs ad 9 (eM ad cs) y_M_change b_M_change 5 (some .int) 6 [.ref (ad 0), .int x, .int v, .int (sI t)] S (fun r u => r = (sChg nb sp F x v t).1 ∧ RM nb sp (sChg nb sp F x v t).2 u) := by
  refine MC.intro (by decide) (Nat.le_of_ble_eq_true rfl) ?_
  intro p e s m below meth c C hr hlk hnm hH ls hl
  have hI : In D ad 9 s (eM ad cs S) s.heap [] := ⟨hG, hH, va_S.rf⟩
  have hx := C.1.1
  have hb := C.1.2.1
  obtain ⟨hB, hO⟩ := hO
  have h1 := hB.nb
  have h2 := hB.bl
  refine lv_aload_n hx hb d_M_change_0 rfl (lv_at hl 0 rfl) ?_
  refine lv_iload_n hx hb d_M_change_1 rfl (lv_at hl 1 rfl) ?_
  refine mc_ROi C hI (c_M_isSector hG hR hB x) yv_M_isSector k_ml_M_103 rfl (by decide) rfl hl.1 rfl (Nat.le_of_ble_eq_true rfl) d_M_change_2 ⟨Nat.le_refl _, Nat.le_refl _⟩ (fun r hp => ?_)
  subst hp
  cases hin : inR (4 * (nb - 3)) x with
  | none =>
    refine bb_ne (tgt := 10) C d_M_change_5 (by decide) (fun k1 => ?_) (fun k1 => ?_)
    · cases k1
    · refine lv_iconst (v := -1) hx hb d_M_change_8 (by decide) ?_
      exact rt_RWi C hI hr hlk ⟨by rw [sChg, hin], by rw [sChg, hin]; exact hR⟩ d_M_change_9
  | some q =>
    have hO2 := hO q hin
    obtain ⟨hxq, hq⟩ := inR_some (by omega) hin
    subst hxq
    have hres : sChg nb sp F (nI q) v t = (nI (sPut nb sp F q v t).1, (sPut nb sp F q v t).2) := by rw [sChg, hin]
    rw [hres]
    -- the end: entry k of a flash is set
    refine W_atH (pc2 := 66) (st2 := []) (fun H locs ls => ∃ (k : Nat) (S9 : SM) (F9 : Fl) (bf : List (Nat × Int32 × Bool)), k < 3 ∧ RM nb sp F9 S9 ∧ (∃ n : Int32, n = nI bf.length ∧ In D ad 9 s (eM ad cs (va_up S9.1 12 n, S9.2)) H locs) ∧ (∀ (j : Nat) (x : Nat × Int32 × Bool), bf[j]? = some x → (j = k ∧ x = (q, v, t)) ∨ (j ≠ k ∧ (fBf F9)[j]? = some x)) ∧ sPut nb sp F q v t = (0, fSetBf F9 bf) ∧ lv_has ls 5 [(0, .ref (ad 0)), (1, .int (nI q)), (2, .int v), (3, .int (sI t)), (4, .int (nI k))]) ?_ (fun J => ?_)
    · intro H locs ls ⟨k, S9, F9, bf, hk3, hR9, ⟨n, hn, hI⟩, hbf, hsp, hl⟩
      refine lv_aload_n hx hb d_M_change_66 rfl (lv_at hl 0 rfl) ?_
      refine m_getr C hI 13 (by decide) k_fl_M_29 rfl 6 rfl d_M_change_67 ?_
      refine lv_iload hx hb d_M_change_70 (lv_at hl 4 rfl) ?_
      refine lv_iload_n hx hb d_M_change_72 rfl (lv_at hl 1 rfl) ?_
      refine m_ast C hI 5 (by omega) (i := k) (show k < 3 by omega) d_M_change_73 (fun H locs MA hMA hI => ?_)
      refine lv_aload_n hx hb d_M_change_74 rfl (lv_at hl 0 rfl) ?_
      refine m_getr C hI 14 (by decide) k_fl_M_32 rfl 7 rfl d_M_change_75 ?_
      refine lv_iload hx hb d_M_change_78 (lv_at hl 4 rfl) ?_
      refine lv_iload_n hx hb d_M_change_80 rfl (lv_at hl 2 rfl) ?_
      refine m_ast C hI 6 (by omega) (i := k) (show k < 3 by omega) d_M_change_81 (fun H locs MB hMB hI => ?_)
      refine lv_aload_n hx hb d_M_change_82 rfl (lv_at hl 0 rfl) ?_
      refine m_getr C hI 15 (by decide) k_fl_M_35 rfl 8 rfl d_M_change_83 ?_
      refine lv_iload hx hb d_M_change_86 (lv_at hl 4 rfl) ?_
      refine lv_iload_n hx hb d_M_change_88 rfl (lv_at hl 3 rfl) ?_
      refine m_ast C hI 7 (by omega) (i := k) (show k < 3 by omega) d_M_change_89 (fun H locs MC hMC hI => ?_)
      refine lv_iconst (v := nI 0) hx hb d_M_change_90 (by decide) ?_
      subst hMC hMB hMA
      exact rt_RWi C hI hr hlk ⟨by rw [hsp], by rw [hsp]; exact hR9.setBf (e := (q, v, t)) hbf n hn⟩ d_M_change_91
    · refine bb_ne (tgt := 10) C d_M_change_5 (by decide) (fun k1 => ?_) (fun k1 => ?_)
      · refine lv_aload_n hx hb d_M_change_10 rfl (lv_at hl 0 rfl) ?_
        refine lv_iload_n hx hb d_M_change_11 rfl (lv_at hl 1 rfl) ?_
        refine mc_ROi C hI (c_M_find hG hR hB hq) yv_M_find k_ml_M_106 rfl (by decide) rfl hl.1 rfl (Nat.le_of_ble_eq_true rfl) d_M_change_12 ⟨Nat.le_refl _, Nat.le_refl _⟩ (fun r hp => ?_)
        subst hp
        refine lv_istore (lv' := [(4, _), (0, _), (1, _), (2, _), (3, _)]) hx hb d_M_change_15 hl (by decide) rfl (fun ls hl => ?_)
        refine lv_iload hx hb d_M_change_17 (lv_at hl 0 rfl) ?_
        refine lv_iconst (v := -1) hx hb d_M_change_19 (by decide) ?_
        cases hf : bfI (fBf F) q with
        | some k =>
          have hk := bfI_some hf
          rw [hf, oI_some] at hl
          rw [oI_some]
          refine lv_icmp_ne (tgt := 44) hx hb d_M_change_20 (by decide) (fun k2 => ?_) (fun k2 => ?_)
          · refine lv_iload hx hb d_M_change_44 (lv_at hl 0 rfl) ?_
            refine lv_iconst (v := -1) hx hb d_M_change_46 (by decide) ?_
            refine lv_icmp_ne (tgt := 66) hx hb d_M_change_47 (by decide) (fun k3 => ?_) (fun k3 => ?_)
            · exact J _ _ _ ⟨k, S, F, (fBf F).set k (q, v, t), by omega, hR, ⟨S.1 12, by rw [hR.bl, List.length_set], by rw [va_up_id]; exact hI⟩, fun j x hx => by
                by_cases z : j = k
                · subst z
                  rw [List.getElem?_set_self hk] at hx
                  exact Or.inl ⟨rfl, (Option.some.inj hx).symm⟩
                · rw [List.getElem?_set_ne (Ne.symm z)] at hx
                  exact Or.inr ⟨z, hx⟩, by rw [sPut, hf], lv_sub hl [1, 2, 3, 4, 0] rfl⟩
            · exact absurd k3 (nI_nem1 (by omega))
          · exact absurd k2 (nI_nem1 (by omega))
        | none =>
          rw [hf, oI_none] at hl
          rw [oI_none]
          -- a new entry of a flash with room
          refine W_atH (pc2 := 44) (st2 := []) (fun H locs ls => ∃ (S9 : SM) (F9 : Fl), (fBf F9).length < 3 ∧ RM nb sp F9 S9 ∧ In D ad 9 s (eM ad cs S9) H locs ∧ sPut nb sp F q v t = (0, fSetBf F9 (fBf F9 ++ [(q, v, t)])) ∧ lv_has ls 5 [(0, .ref (ad 0)), (1, .int (nI q)), (2, .int v), (3, .int (sI t)), (4, .int (-1))]) ?_ (fun J2 => ?_)
          · intro H locs ls ⟨S9, F9, hl3, hR9, hI, hsp, hl⟩
            refine lv_iload hx hb d_M_change_44 (lv_at hl 4 rfl) ?_
            refine lv_iconst (v := -1) hx hb d_M_change_46 (by decide) ?_
            refine lv_icmp_ne (tgt := 66) hx hb d_M_change_47 (by decide) (fun k3 => ?_) (fun k3 => ?_)
            · exact absurd rfl k3
            · refine lv_aload_n hx hb d_M_change_50 rfl (lv_at hl 0 rfl) ?_
              refine m_geti C hI 12 (by decide) k_fl_M_100 rfl rfl (hR9.bl) d_M_change_51 ?_
              refine lv_istore (lv' := [(4, _), (0, _), (1, _), (2, _), (3, _)]) hx hb d_M_change_54 hl (by decide) rfl (fun ls hl => ?_)
              refine lv_aload_n hx hb d_M_change_56 rfl (lv_at hl 1 rfl) ?_
              refine lv_dup hx hb d_M_change_57 rfl ?_
              refine m_geti C hI 12 (by decide) k_fl_M_100 rfl rfl (hR9.bl) d_M_change_58 ?_
              refine lv_iconst (v := nI 1) hx hb d_M_change_61 (by decide) ?_
              refine an_add C d_M_change_62 ?_
              refine m_puti C hI 12 (by omega) k_fl_M_100 rfl rfl rfl rfl d_M_change_63 (fun H locs MI hMI hI => ?_)
              subst hMI
              exact J _ _ _ ⟨(fBf F9).length, S9, F9, fBf F9 ++ [(q, v, t)], hl3, hR9, ⟨_, by rw [List.length_append]; rfl, hI⟩, fun j x hx => by
                by_cases z : j = (fBf F9).length
                · subst z
                  rw [List.getElem?_append_right (Nat.le_refl _), Nat.sub_self] at hx
                  exact Or.inl ⟨rfl, (Option.some.inj hx).symm⟩
                · have hlt : j < (fBf F9 ++ [(q, v, t)]).length := (List.getElem?_eq_some_iff.mp hx).1
                  rw [List.length_append, List.length_singleton] at hlt
                  rw [List.getElem?_append_left (by omega)] at hx
                  exact Or.inr ⟨z, hx⟩, hsp, lv_sub hl [1, 2, 3, 4, 0] rfl⟩
          · refine lv_icmp_ne (tgt := 44) hx hb d_M_change_20 (by decide) (fun k2 => ?_) (fun k2 => ?_)
            · exact absurd rfl k2
            · refine lv_aload_n hx hb d_M_change_23 rfl (lv_at hl 1 rfl) ?_
              refine m_geti C hI 12 (by decide) k_fl_M_100 rfl rfl (hR.bl) d_M_change_24 ?_
              refine lv_iconst (v := nI 3) hx hb d_M_change_27 (by decide) ?_
              refine bn_ne (tgt := 44) C (by omega) (by omega) d_M_change_28 (by decide) (fun k3 => ?_) (fun k3 => ?_)
              · exact J2 _ _ _ ⟨S, F, by omega, hR, hI, by rw [sPut, hf]; dsimp only; rw [if_neg k3], lv_sub hl [1, 2, 3, 4, 0] rfl⟩
              · obtain ⟨hSt, hO3, hO4⟩ := hO2.2 hf k3
                refine lv_aload_n hx hb d_M_change_31 rfl (lv_at hl 1 rfl) ?_
                refine mc_RWi C hI (c_M_store hG hR hSt) yv_M_store k_ml_M_109 rfl (by decide) rfl hl.1 rfl (Nat.le_of_ble_eq_true rfl) d_M_change_32 ⟨Nat.le_refl _, Nat.le_refl _⟩ (fun r S1 H locs hp hI => ?_)
                obtain ⟨rfl, hR1⟩ := hp
                refine bb_ne (tgt := 44) C d_M_change_35 (by decide) (fun k4 => ?_) (fun k4 => ?_)
                · obtain ⟨hB1, hbf1⟩ := hO3 k4
                  exact J2 _ _ _ ⟨S1, (sStore nb sp F).2, by rw [hbf1, List.length_tail]; omega, hR1, hI, by rw [sPut, hf]; dsimp only; rw [if_pos k3, if_pos k4], lv_sub hl [1, 2, 3, 4, 0] rfl⟩
                · have hLo := hO4 k4
                  refine lv_aload_n hx hb d_M_change_38 rfl (lv_at hl 1 rfl) ?_
                  refine mc_RWv C hI (c_M_cut hG hR1 hLo) yv_M_cut k_ml_M_112 rfl (by decide) rfl hl.1 rfl (Nat.le_of_ble_eq_true rfl) d_M_change_39 ⟨Nat.le_refl _, Nat.le_refl _⟩ (fun S2 H locs hp hI => ?_)
                  refine lv_iconst (v := nI 1) hx hb d_M_change_42 (by decide) ?_
                  have hsp : sPut nb sp F q v t = (1, sLost nb (sStore nb sp F).2) := by rw [sPut, hf]; dsimp only; rw [if_pos k3, if_neg (by rw [k4]; decide)]
                  exact rt_RWi C hI hr hlk ⟨by rw [hsp], by rw [hsp]; exact hp⟩ d_M_change_43
      · cases k1
end MT
end
section
/-! THE TWIN: what is asked, and the rest of what is done -/
section MG
variable {l : Launch} {D : va_G} {cs : Nat → ClassId} {ad : Nat → Nat} {nb sp : Nat} {F : Fl} {S : SM}
theorem c_M_write (hG : Geo ad 9) (hR : RM nb sp F S) (x v : Int32) (hO : ChgOK nb sp F x) : RWi l D cs ad 9 (eM ad cs) y_M_write b_M_write 3 (some .int) 7 [.ref (ad 0), .int x, .int v] S (fun r u => r = (sChg nb sp F x v false).1 ∧ RM nb sp (sChg nb sp F x v false).2 u) := by
  refine MC.intro (by decide) (Nat.le_of_ble_eq_true rfl) ?_
  intro p e s m below meth c C hr hlk hnm hH ls hl
  have hI : In D ad 9 s (eM ad cs S) s.heap [] := ⟨hG, hH, va_S.rf⟩
  have hx := C.1.1
  have hb := C.1.2.1
  refine lv_aload_n hx hb d_M_write_0 rfl (lv_at hl 0 rfl) ?_
  refine lv_iload_n hx hb d_M_write_1 rfl (lv_at hl 1 rfl) ?_
  refine lv_iload_n hx hb d_M_write_2 rfl (lv_at hl 2 rfl) ?_
  refine lv_iconst (v := sI false) hx hb d_M_write_3 (by decide) ?_
  refine mc_RWi C hI (c_M_change hG hR x v false hO) yv_M_change k_ml_M_115 rfl (by decide) rfl hl.1 rfl (Nat.le_of_ble_eq_true rfl) d_M_write_4 ⟨Nat.le_refl _, Nat.le_refl _⟩ (fun r S1 H locs hp hI => ?_)
  exact rt_RWi C hI hr hlk hp d_M_write_7
theorem c_M_trim (hG : Geo ad 9) (hR : RM nb sp F S) (x : Int32) (hO : ChgOK nb sp F x) : RWi l D cs ad 9 (eM ad cs) y_M_trim b_M_trim 2 (some .int) 7 [.ref (ad 0), .int x] S (fun r u => r = (sChg nb sp F x 0 true).1 ∧ RM nb sp (sChg nb sp F x 0 true).2 u) := by
  refine MC.intro (by decide) (Nat.le_of_ble_eq_true rfl) ?_
  intro p e s m below meth c C hr hlk hnm hH ls hl
  have hI : In D ad 9 s (eM ad cs S) s.heap [] := ⟨hG, hH, va_S.rf⟩
  have hx := C.1.1
  have hb := C.1.2.1
  refine lv_aload_n hx hb d_M_trim_0 rfl (lv_at hl 0 rfl) ?_
  refine lv_iload_n hx hb d_M_trim_1 rfl (lv_at hl 1 rfl) ?_
  refine lv_iconst (v := 0) hx hb d_M_trim_2 (by decide) ?_
  refine lv_iconst (v := sI true) hx hb d_M_trim_3 (by decide) ?_
  refine mc_RWi C hI (c_M_change hG hR x 0 true hO) yv_M_change k_ml_M_115 rfl (by decide) rfl hl.1 rfl (Nat.le_of_ble_eq_true rfl) d_M_trim_4 ⟨Nat.le_refl _, Nat.le_refl _⟩ (fun r S1 H locs hp hI => ?_)
  exact rt_RWi C hI hr hlk hp d_M_trim_7
theorem FlushOK.wb : ∀ {n : Nat} {F : Fl}, FlushOK nb sp n F → WB nb sp F ∧ (fBf F).length = n
  | 0, _, h => ⟨h.1, by rw [h.2]; rfl⟩
  | _ + 1, _, h => ⟨h.1, h.2.1⟩
theorem c_M_flush (hG : Geo ad 9) (hR : RM nb sp F S) (hO : FlushOK nb sp (fBf F).length F) : RWi l D cs ad 9 (eM ad cs) y_M_flush b_M_flush 1 (some .int) 6 [.ref (ad 0)] S (fun r u => r = nI (sFlush nb sp (fBf F).length F).1 ∧ RM nb sp (sFlush nb sp (fBf F).length F).2 u) := by
  refine MC.intro (by decide) (Nat.le_of_ble_eq_true rfl) ?_
  intro p e s m below meth c C hr hlk hnm hH ls hl
  have hI : In D ad 9 s (eM ad cs S) s.heap [] := ⟨hG, hH, va_S.rf⟩
  have hx := C.1.1
  have hb := C.1.2.1
  refine W_while (σ := Nat × Fl) (fun x => x.1) (fun x H locs ls => FlushOK nb sp x.1 x.2 ∧ sFlush nb sp x.1 x.2 = sFlush nb sp (fBf F).length F ∧ ∃ S1, RM nb sp x.2 S1 ∧ In D ad 9 s (eM ad cs S1) H locs ∧ lv_has ls 1 [(0, .ref (ad 0))]) ?_ ((fBf F).length, F) ⟨hO, rfl, S, hR, hI, hl⟩
  intro ⟨n, F1⟩ H locs ls ⟨hO1, hs1, S1, hR1, hI, hl⟩ ih
  dsimp only at hO1 hs1 hR1 ih
  obtain ⟨hB, hn⟩ := hO1.wb
  have h2 := hB.bl
  refine lv_aload_n hx hb d_M_flush_0 rfl (lv_at hl 0 rfl) ?_
  refine m_geti C hI 12 (by decide) k_fl_M_100 rfl rfl (by rw [hR1.bl, hn]) d_M_flush_1 ?_
  refine bz_le (tgt := 20) C (by omega) d_M_flush_4 (by decide) (fun k1 => ?_) (fun k1 => ?_)
  · subst k1
    refine lv_iconst (v := nI 0) hx hb d_M_flush_20 (by decide) ?_
    exact rt_RWi C hI hr hlk ⟨by rw [← hs1]; rfl, by rw [← hs1]; exact hR1⟩ d_M_flush_21
  · cases n with
    | zero => omega
    | succ n =>
    obtain ⟨-, -, hSt, hO2, hO3⟩ := hO1
    refine lv_aload_n hx hb d_M_flush_7 rfl (lv_at hl 0 rfl) ?_
    refine mc_RWi C hI (c_M_store hG hR1 hSt) yv_M_store k_ml_M_109 rfl (by decide) rfl hl.1 rfl (Nat.le_of_ble_eq_true rfl) d_M_flush_8 ⟨Nat.le_refl _, Nat.le_refl _⟩ (fun r S2 H locs hp hI => ?_)
    obtain ⟨rfl, hR2⟩ := hp
    refine bb_ne (tgt := 0) C d_M_flush_11 (by decide) (fun k2 => ?_) (fun k2 => ?_)
    · exact ih (n, (sStore nb sp F1).2) _ _ _ (Nat.lt_succ_self n) ⟨hO2 k2, by rw [← hs1, sFlush, if_pos k2], S2, hR2, hI, hl⟩
    · refine lv_aload_n hx hb d_M_flush_14 rfl (lv_at hl 0 rfl) ?_
      refine mc_RWv C hI (c_M_cut hG hR2 (hO3 k2)) yv_M_cut k_ml_M_112 rfl (by decide) rfl hl.1 rfl (Nat.le_of_ble_eq_true rfl) d_M_flush_15 ⟨Nat.le_refl _, Nat.le_refl _⟩ (fun S3 H locs hp hI => ?_)
      refine lv_iconst (v := nI 1) hx hb d_M_flush_18 (by decide) ?_
      have hres : sFlush nb sp (fBf F).length F = (1, sLost nb (sStore nb sp F1).2) := by rw [← hs1, sFlush, if_neg (by rw [k2]; decide)]
      exact rt_RWi C hI hr hlk ⟨by rw [hres], by rw [hres]; exact hp⟩ d_M_flush_19
theorem c_M_buffered (hG : Geo ad 9) (hR : RM nb sp F S) : ROi l D cs ad 9 (eM ad cs S) y_M_buffered b_M_buffered 1 (some .int) 0 [.ref (ad 0)] (fun r => r = nI (fBf F).length) := by
  refine MC.intro (by decide) (Nat.le_of_ble_eq_true rfl) ?_
  intro p e s m below meth c C hr hlk hnm hH ls hl
  have hI : In D ad 9 s (eM ad cs S) s.heap [] := ⟨hG, hH, va_S.rf⟩
  have hx := C.1.1
  have hb := C.1.2.1
  refine lv_aload_n hx hb d_M_buffered_0 rfl (lv_at hl 0 rfl) ?_
  refine m_geti C hI 12 (by decide) k_fl_M_100 rfl rfl (hR.bl) d_M_buffered_1 ?_
  exact rt_ROi C hr hlk rfl d_M_buffered_4
theorem c_M_open (hG : Geo ad 9) (hR : RM nb sp F S) : ROi l D cs ad 9 (eM ad cs S) y_M_open b_M_open 1 (some .int) 0 [.ref (ad 0)] (fun r => r = oI (fOp F)) := by
  refine MC.intro (by decide) (Nat.le_of_ble_eq_true rfl) ?_
  intro p e s m below meth c C hr hlk hnm hH ls hl
  have hI : In D ad 9 s (eM ad cs S) s.heap [] := ⟨hG, hH, va_S.rf⟩
  have hx := C.1.1
  have hb := C.1.2.1
  refine lv_aload_n hx hb d_M_open_0 rfl (lv_at hl 0 rfl) ?_
  refine m_geti C hI 8 (by decide) k_fl_M_25 rfl rfl (hR.op) d_M_open_1 ?_
  exact rt_ROi C hr hlk rfl d_M_open_4
theorem c_M_operations (hG : Geo ad 9) (hR : RM nb sp F S) : ROi l D cs ad 9 (eM ad cs S) y_M_operations b_M_operations 1 (some .int) 0 [.ref (ad 0)] (fun r => r = nI (fOs F)) := by
  refine MC.intro (by decide) (Nat.le_of_ble_eq_true rfl) ?_
  intro p e s m below meth c C hr hlk hnm hH ls hl
  have hI : In D ad 9 s (eM ad cs S) s.heap [] := ⟨hG, hH, va_S.rf⟩
  have hx := C.1.1
  have hb := C.1.2.1
  refine lv_aload_n hx hb d_M_operations_0 rfl (lv_at hl 0 rfl) ?_
  refine m_geti C hI 9 (by decide) k_fl_M_70 rfl rfl (hR.os) d_M_operations_1 ?_
  exact rt_ROi C hr hlk rfl d_M_operations_4
theorem c_M_free (hG : Geo ad 9) (hR : RM nb sp F S) (hB : WB nb sp F) : ROi l D cs ad 9 (eM ad cs S) y_M_free b_M_free 1 (some .int) 2 [.ref (ad 0)] (fun r => r = nI (fFree nb F)) := by
  refine MC.intro (by decide) (Nat.le_of_ble_eq_true rfl) ?_
  intro p e s m below meth c C hr hlk hnm hH ls hl
  have hI : In D ad 9 s (eM ad cs S) s.heap [] := ⟨hG, hH, va_S.rf⟩
  have hx := C.1.1
  have hb := C.1.2.1
  refine lv_aload_n hx hb d_M_free_0 rfl (lv_at hl 0 rfl) ?_
  refine mc_ROi C hI (c_M_freeBlocks hG hR hB) yv_M_freeBlocks k_ml_M_84 rfl (by decide) rfl hl.1 rfl (Nat.le_of_ble_eq_true rfl) d_M_free_1 ⟨Nat.le_refl _, Nat.le_refl _⟩ (fun r hp => ?_)
  exact rt_ROi C hr hlk hp d_M_free_4
theorem c_M_read (hG : Geo ad 9) (hR : RM nb sp F S) (hB : WB nb sp F) (x : Int32) : ROi l D cs ad 9 (eM ad cs S) y_M_read b_M_read 4 (some .int) 2 [.ref (ad 0), .int x] (fun r => r = sRead nb F x) := by
  refine MC.intro (by decide) (Nat.le_of_ble_eq_true rfl) ?_
  intro p e s m below meth c C hr hlk hnm hH ls hl
  have hI : In D ad 9 s (eM ad cs S) s.heap [] := ⟨hG, hH, va_S.rf⟩
  have hx := C.1.1
  have hb := C.1.2.1
  have h1 := hB.nb
  have h2 := hB.bl
  refine lv_aload_n hx hb d_M_read_0 rfl (lv_at hl 0 rfl) ?_
  refine lv_iload_n hx hb d_M_read_1 rfl (lv_at hl 1 rfl) ?_
  refine mc_ROi C hI (c_M_isSector hG hR hB x) yv_M_isSector k_ml_M_103 rfl (by decide) rfl hl.1 rfl (Nat.le_of_ble_eq_true rfl) d_M_read_2 ⟨Nat.le_refl _, Nat.le_refl _⟩ (fun r hp => ?_)
  subst hp
  cases hin : inR (4 * (nb - 3)) x with
  | none =>
    refine bb_eq (tgt := 16) C d_M_read_5 (by decide) (fun k1 => ?_) (fun k1 => ?_)
    · refine lv_iconst (v := -1) hx hb d_M_read_16 (by decide) ?_
      refine lv_istore_n (lv' := [(2, _), (0, _), (1, _)]) hx hb d_M_read_17 rfl hl (by decide) rfl (fun ls hl => ?_)
      refine lv_iload_n hx hb d_M_read_18 rfl (lv_at hl 0 rfl) ?_
      refine lv_iconst (v := -1) hx hb d_M_read_19 (by decide) ?_
      refine lv_icmp_eq (tgt := 30) hx hb d_M_read_20 (by decide) (fun k2 => ?_) (fun k2 => ?_)
      · refine lv_aload_n hx hb d_M_read_30 rfl (lv_at hl 1 rfl) ?_
        refine lv_iload_n hx hb d_M_read_31 rfl (lv_at hl 2 rfl) ?_
        refine mc_ROi C hI (c_M_isSector hG hR hB x) yv_M_isSector k_ml_M_103 rfl (by decide) rfl hl.1 rfl (Nat.le_of_ble_eq_true rfl) d_M_read_32 ⟨Nat.le_refl _, Nat.le_refl _⟩ (fun r hp => ?_)
        rw [hin] at hp
        subst hp
        refine bb_eq (tgt := 46) C d_M_read_35 (by decide) (fun k3 => ?_) (fun k3 => ?_)
        · refine lv_iconst (v := -1) hx hb d_M_read_46 (by decide) ?_
          refine lv_istore_n (lv' := [(3, _), (2, _), (0, _), (1, _)]) hx hb d_M_read_47 rfl hl (by decide) rfl (fun ls hl => ?_)
          refine lv_iload_n hx hb d_M_read_48 rfl (lv_at hl 0 rfl) ?_
          refine lv_iconst (v := -1) hx hb d_M_read_49 (by decide) ?_
          refine lv_icmp_ne (tgt := 57) hx hb d_M_read_50 (by decide) (fun k4 => ?_) (fun k4 => ?_)
          · exact absurd rfl k4
          · refine lv_iconst (v := 0) hx hb d_M_read_53 (by decide) ?_
            refine lv_goto (tgt := 63) hx hb d_M_read_54 (by decide) ?_
            exact rt_ROi C hr hlk (by rw [sRead, hin]) d_M_read_63
        · cases k3
      · exact absurd rfl k2
    · cases k1
  | some q =>
    obtain ⟨hxq, hq⟩ := inR_some (by omega) hin
    subst hxq
    refine bb_eq (tgt := 16) C d_M_read_5 (by decide) (fun k1 => ?_) (fun k1 => ?_)
    · cases k1
    · refine lv_aload_n hx hb d_M_read_8 rfl (lv_at hl 0 rfl) ?_
      refine lv_iload_n hx hb d_M_read_9 rfl (lv_at hl 1 rfl) ?_
      refine mc_ROi C hI (c_M_find hG hR hB hq) yv_M_find k_ml_M_106 rfl (by decide) rfl hl.1 rfl (Nat.le_of_ble_eq_true rfl) d_M_read_10 ⟨Nat.le_refl _, Nat.le_refl _⟩ (fun r hp => ?_)
      subst hp
      refine lv_goto (tgt := 17) hx hb d_M_read_13 (by decide) ?_
      refine lv_istore_n (lv' := [(2, _), (0, _), (1, _)]) hx hb d_M_read_17 rfl hl (by decide) rfl (fun ls hl => ?_)
      refine lv_iload_n hx hb d_M_read_18 rfl (lv_at hl 0 rfl) ?_
      refine lv_iconst (v := -1) hx hb d_M_read_19 (by decide) ?_
      refine bo_eq (tgt := 30) C (fun j hj => by have := bfI_some hj; omega) d_M_read_20 (by decide) (fun k2 => ?_) (fun j20 k2 => ?_)
      · refine lv_aload_n hx hb d_M_read_30 rfl (lv_at hl 1 rfl) ?_
        refine lv_iload_n hx hb d_M_read_31 rfl (lv_at hl 2 rfl) ?_
        refine mc_ROi C hI (c_M_isSector hG hR hB (nI q)) yv_M_isSector k_ml_M_103 rfl (by decide) rfl hl.1 rfl (Nat.le_of_ble_eq_true rfl) d_M_read_32 ⟨Nat.le_refl _, Nat.le_refl _⟩ (fun r hp => ?_)
        rw [hin] at hp
        subst hp
        refine bb_eq (tgt := 46) C d_M_read_35 (by decide) (fun k3 => ?_) (fun k3 => ?_)
        · cases k3
        · refine lv_aload_n hx hb d_M_read_38 rfl (lv_at hl 1 rfl) ?_
          refine lv_iload_n hx hb d_M_read_39 rfl (lv_at hl 2 rfl) ?_
          refine mc_ROi C hI (c_M_newest hG hR hB hq) yv_M_newest k_ml_M_48 rfl (by decide) rfl hl.1 rfl (Nat.le_of_ble_eq_true rfl) d_M_read_40 ⟨Nat.le_refl _, Nat.le_refl _⟩ (fun r hp => ?_)
          subst hp
          refine lv_goto (tgt := 47) hx hb d_M_read_43 (by decide) ?_
          refine lv_istore_n (lv' := [(3, _), (2, _), (0, _), (1, _)]) hx hb d_M_read_47 rfl hl (by decide) rfl (fun ls hl => ?_)
          refine lv_iload_n hx hb d_M_read_48 rfl (lv_at hl 0 rfl) ?_
          refine lv_iconst (v := -1) hx hb d_M_read_49 (by decide) ?_
          refine bo_ne (tgt := 57) C (fun j hj => by have := (bst_lt hj).1; omega) d_M_read_50 (by decide) (fun j50 k4 => ?_) (fun k4 => ?_)
          · have hj := bst_lt k4
            have hjp : prg F j50 = true := by have := hj.2; unfold nwOk at this; simp only [Bool.and_eq_true] at this; exact this.1
            refine lv_aload_n hx hb d_M_read_57 rfl (lv_at hl 2 rfl) ?_
            refine m_getr C hI 3 (by decide) k_fl_M_13 rfl 2 rfl d_M_read_58 ?_
            refine lv_iload_n (x := nI j50) hx hb d_M_read_61 rfl (by rw [← oI_some, ← k4]; exact lv_at hl 0 rfl) ?_
            refine m_ald C hI 1 (by omega) (i := j50) (show j50 < 48 by omega) (hR.pg _ hj.1 hjp).1 d_M_read_62 ?_
            exact rt_ROi C hr hlk (by rw [sRead, hin]; dsimp only; rw [k2]; dsimp only; rw [k4]) d_M_read_63
          · refine lv_iconst (v := 0) hx hb d_M_read_53 (by decide) ?_
            refine lv_goto (tgt := 63) hx hb d_M_read_54 (by decide) ?_
            exact rt_ROi C hr hlk (by rw [sRead, hin]; dsimp only; rw [k2]; dsimp only; rw [k4]) d_M_read_63
      · have hk := bfI_some k2
        have he : (fBf F)[j20]? = some (fBf F)[j20] := List.getElem?_eq_getElem hk
        refine lv_aload_n hx hb d_M_read_23 rfl (lv_at hl 1 rfl) ?_
        refine m_getr C hI 14 (by decide) k_fl_M_32 rfl 7 rfl d_M_read_24 ?_
        refine lv_iload_n (x := nI j20) hx hb d_M_read_27 rfl (by rw [← oI_some, ← k2]; exact lv_at hl 0 rfl) ?_
        refine m_ald C hI 6 (by omega) (i := j20) (show j20 < 3 by omega) (hR.bf _ _ he).2.1 d_M_read_28 ?_
        exact rt_ROi C hr hlk (by rw [sRead, hin]; dsimp only; rw [k2]; dsimp only; rw [List.getD_eq_getElem?_getD, he]; rfl) d_M_read_29
theorem c_M_holds (hG : Geo ad 9) (hR : RM nb sp F S) (hB : WB nb sp F) (x : Int32) : ROi l D cs ad 9 (eM ad cs S) y_M_holds b_M_holds 4 (some .int) 2 [.ref (ad 0), .int x] (fun r => r = sHolds nb F x) := by
  refine MC.intro (by decide) (Nat.le_of_ble_eq_true rfl) ?_
  intro p e s m below meth c C hr hlk hnm hH ls hl
  have hI : In D ad 9 s (eM ad cs S) s.heap [] := ⟨hG, hH, va_S.rf⟩
  have hx := C.1.1
  have hb := C.1.2.1
  have h1 := hB.nb
  have h2 := hB.bl
  refine lv_aload_n hx hb d_M_holds_0 rfl (lv_at hl 0 rfl) ?_
  refine lv_iload_n hx hb d_M_holds_1 rfl (lv_at hl 1 rfl) ?_
  refine mc_ROi C hI (c_M_isSector hG hR hB x) yv_M_isSector k_ml_M_103 rfl (by decide) rfl hl.1 rfl (Nat.le_of_ble_eq_true rfl) d_M_holds_2 ⟨Nat.le_refl _, Nat.le_refl _⟩ (fun r hp => ?_)
  subst hp
  cases hin : inR (4 * (nb - 3)) x with
  | none =>
    refine bb_eq (tgt := 16) C d_M_holds_5 (by decide) (fun k1 => ?_) (fun k1 => ?_)
    · refine lv_iconst (v := -1) hx hb d_M_holds_16 (by decide) ?_
      refine lv_istore_n (lv' := [(2, _), (0, _), (1, _)]) hx hb d_M_holds_17 rfl hl (by decide) rfl (fun ls hl => ?_)
      refine lv_iload_n hx hb d_M_holds_18 rfl (lv_at hl 0 rfl) ?_
      refine lv_iconst (v := -1) hx hb d_M_holds_19 (by decide) ?_
      refine lv_icmp_eq (tgt := 30) hx hb d_M_holds_20 (by decide) (fun k2 => ?_) (fun k2 => ?_)
      · refine lv_aload_n hx hb d_M_holds_30 rfl (lv_at hl 1 rfl) ?_
        refine lv_iload_n hx hb d_M_holds_31 rfl (lv_at hl 2 rfl) ?_
        refine mc_ROi C hI (c_M_isSector hG hR hB x) yv_M_isSector k_ml_M_103 rfl (by decide) rfl hl.1 rfl (Nat.le_of_ble_eq_true rfl) d_M_holds_32 ⟨Nat.le_refl _, Nat.le_refl _⟩ (fun r hp => ?_)
        rw [hin] at hp
        subst hp
        refine bb_eq (tgt := 46) C d_M_holds_35 (by decide) (fun k3 => ?_) (fun k3 => ?_)
        · refine lv_iconst (v := -1) hx hb d_M_holds_46 (by decide) ?_
          refine lv_istore_n (lv' := [(3, _), (2, _), (0, _), (1, _)]) hx hb d_M_holds_47 rfl hl (by decide) rfl (fun ls hl => ?_)
          refine lv_iload_n hx hb d_M_holds_48 rfl (lv_at hl 0 rfl) ?_
          refine lv_iconst (v := -1) hx hb d_M_holds_49 (by decide) ?_
          refine lv_icmp_ne (tgt := 57) hx hb d_M_holds_50 (by decide) (fun k4 => ?_) (fun k4 => ?_)
          · exact absurd rfl k4
          · refine lv_iconst (v := 0) hx hb d_M_holds_53 (by decide) ?_
            refine lv_goto (tgt := 63) hx hb d_M_holds_54 (by decide) ?_
            exact rt_ROi C hr hlk (by rw [sHolds, hin]) d_M_holds_63
        · cases k3
      · exact absurd rfl k2
    · cases k1
  | some q =>
    obtain ⟨hxq, hq⟩ := inR_some (by omega) hin
    subst hxq
    refine bb_eq (tgt := 16) C d_M_holds_5 (by decide) (fun k1 => ?_) (fun k1 => ?_)
    · cases k1
    · refine lv_aload_n hx hb d_M_holds_8 rfl (lv_at hl 0 rfl) ?_
      refine lv_iload_n hx hb d_M_holds_9 rfl (lv_at hl 1 rfl) ?_
      refine mc_ROi C hI (c_M_find hG hR hB hq) yv_M_find k_ml_M_106 rfl (by decide) rfl hl.1 rfl (Nat.le_of_ble_eq_true rfl) d_M_holds_10 ⟨Nat.le_refl _, Nat.le_refl _⟩ (fun r hp => ?_)
      subst hp
      refine lv_goto (tgt := 17) hx hb d_M_holds_13 (by decide) ?_
      refine lv_istore_n (lv' := [(2, _), (0, _), (1, _)]) hx hb d_M_holds_17 rfl hl (by decide) rfl (fun ls hl => ?_)
      refine lv_iload_n hx hb d_M_holds_18 rfl (lv_at hl 0 rfl) ?_
      refine lv_iconst (v := -1) hx hb d_M_holds_19 (by decide) ?_
      refine bo_eq (tgt := 30) C (fun j hj => by have := bfI_some hj; omega) d_M_holds_20 (by decide) (fun k2 => ?_) (fun j20 k2 => ?_)
      · refine lv_aload_n hx hb d_M_holds_30 rfl (lv_at hl 1 rfl) ?_
        refine lv_iload_n hx hb d_M_holds_31 rfl (lv_at hl 2 rfl) ?_
        refine mc_ROi C hI (c_M_isSector hG hR hB (nI q)) yv_M_isSector k_ml_M_103 rfl (by decide) rfl hl.1 rfl (Nat.le_of_ble_eq_true rfl) d_M_holds_32 ⟨Nat.le_refl _, Nat.le_refl _⟩ (fun r hp => ?_)
        rw [hin] at hp
        subst hp
        refine bb_eq (tgt := 46) C d_M_holds_35 (by decide) (fun k3 => ?_) (fun k3 => ?_)
        · cases k3
        · refine lv_aload_n hx hb d_M_holds_38 rfl (lv_at hl 1 rfl) ?_
          refine lv_iload_n hx hb d_M_holds_39 rfl (lv_at hl 2 rfl) ?_
          refine mc_ROi C hI (c_M_newest hG hR hB hq) yv_M_newest k_ml_M_48 rfl (by decide) rfl hl.1 rfl (Nat.le_of_ble_eq_true rfl) d_M_holds_40 ⟨Nat.le_refl _, Nat.le_refl _⟩ (fun r hp => ?_)
          subst hp
          refine lv_goto (tgt := 47) hx hb d_M_holds_43 (by decide) ?_
          refine lv_istore_n (lv' := [(3, _), (2, _), (0, _), (1, _)]) hx hb d_M_holds_47 rfl hl (by decide) rfl (fun ls hl => ?_)
          refine lv_iload_n hx hb d_M_holds_48 rfl (lv_at hl 0 rfl) ?_
          refine lv_iconst (v := -1) hx hb d_M_holds_49 (by decide) ?_
          refine bo_ne (tgt := 57) C (fun j hj => by have := (bst_lt hj).1; omega) d_M_holds_50 (by decide) (fun j50 k4 => ?_) (fun k4 => ?_)
          · have hj := bst_lt k4
            have hjp : prg F j50 = true := by have := hj.2; unfold nwOk at this; simp only [Bool.and_eq_true] at this; exact this.1
            refine lv_aload_n hx hb d_M_holds_57 rfl (lv_at hl 2 rfl) ?_
            refine m_getr C hI 5 (by decide) k_fl_M_19 rfl 4 rfl d_M_holds_58 ?_
            refine lv_iload_n (x := nI j50) hx hb d_M_holds_61 rfl (by rw [← oI_some, ← k4]; exact lv_at hl 0 rfl) ?_
            refine m_ald C hI 3 (by omega) (i := j50) (show j50 < 48 by omega) (hR.pg _ hj.1 hjp).2.2 d_M_holds_62 ?_
            exact rt_ROi C hr hlk (by rw [sHolds, hin]; dsimp only; rw [k2]; dsimp only; rw [k4]) d_M_holds_63
          · refine lv_iconst (v := 0) hx hb d_M_holds_53 (by decide) ?_
            refine lv_goto (tgt := 63) hx hb d_M_holds_54 (by decide) ?_
            exact rt_ROi C hr hlk (by rw [sHolds, hin]; dsimp only; rw [k2]; dsimp only; rw [k4]) d_M_holds_63
      · have hk := bfI_some k2
        have he : (fBf F)[j20]? = some (fBf F)[j20] := List.getElem?_eq_getElem hk
        refine lv_aload_n hx hb d_M_holds_23 rfl (lv_at hl 1 rfl) ?_
        refine m_getr C hI 15 (by decide) k_fl_M_35 rfl 8 rfl d_M_holds_24 ?_
        refine lv_iload_n (x := nI j20) hx hb d_M_holds_27 rfl (by rw [← oI_some, ← k2]; exact lv_at hl 0 rfl) ?_
        refine m_ald C hI 7 (by omega) (i := j20) (show j20 < 3 by omega) (hR.bf _ _ he).2.2 d_M_holds_28 ?_
        exact rt_ROi C hr hlk (by rw [sHolds, hin]; dsimp only; rw [k2]; dsimp only; rw [List.getD_eq_getElem?_getD, he]; rfl) d_M_holds_29
theorem c_M_place (hG : Geo ad 9) (hR : RM nb sp F S) (hB : WB nb sp F) (x : Int32) : ROi l D cs ad 9 (eM ad cs S) y_M_place b_M_place 2 (some .int) 2 [.ref (ad 0), .int x] (fun r => r = sPlace nb F x) := by
  refine MC.intro (by decide) (Nat.le_of_ble_eq_true rfl) ?_
  intro p e s m below meth c C hr hlk hnm hH ls hl
  have hI : In D ad 9 s (eM ad cs S) s.heap [] := ⟨hG, hH, va_S.rf⟩
  have hx := C.1.1
  have hb := C.1.2.1
  have h1 := hB.nb
  refine lv_aload_n hx hb d_M_place_0 rfl (lv_at hl 0 rfl) ?_
  refine lv_iload_n hx hb d_M_place_1 rfl (lv_at hl 1 rfl) ?_
  refine mc_ROi C hI (c_M_isSector hG hR hB x) yv_M_isSector k_ml_M_103 rfl (by decide) rfl hl.1 rfl (Nat.le_of_ble_eq_true rfl) d_M_place_2 ⟨Nat.le_refl _, Nat.le_refl _⟩ (fun r hp => ?_)
  subst hp
  cases hin : inR (4 * (nb - 3)) x with
  | none =>
    refine bb_eq (tgt := 16) C d_M_place_5 (by decide) (fun k1 => ?_) (fun k1 => ?_)
    · refine lv_iconst (v := -1) hx hb d_M_place_16 (by decide) ?_
      exact rt_ROi C hr hlk (by rw [sPlace, hin]) d_M_place_17
    · cases k1
  | some q =>
    obtain ⟨hxq, hq⟩ := inR_some (by omega) hin
    subst hxq
    refine bb_eq (tgt := 16) C d_M_place_5 (by decide) (fun k1 => ?_) (fun k1 => ?_)
    · cases k1
    · refine lv_aload_n hx hb d_M_place_8 rfl (lv_at hl 0 rfl) ?_
      refine lv_iload_n hx hb d_M_place_9 rfl (lv_at hl 1 rfl) ?_
      refine mc_ROi C hI (c_M_newest hG hR hB hq) yv_M_newest k_ml_M_48 rfl (by decide) rfl hl.1 rfl (Nat.le_of_ble_eq_true rfl) d_M_place_10 ⟨Nat.le_refl _, Nat.le_refl _⟩ (fun r hp => ?_)
      refine lv_goto (tgt := 17) hx hb d_M_place_13 (by decide) ?_
      exact rt_ROi C hr hlk (by rw [sPlace, hin]; exact hp) d_M_place_17
theorem c_M_tag (hG : Geo ad 9) (hR : RM nb sp F S) (hB : WB nb sp F) (x : Int32) : ROi l D cs ad 9 (eM ad cs S) y_M_tag b_M_tag 2 (some .int) 2 [.ref (ad 0), .int x] (fun r => r = sTag nb F x) := by
  refine MC.intro (by decide) (Nat.le_of_ble_eq_true rfl) ?_
  intro p e s m below meth c C hr hlk hnm hH ls hl
  have hI : In D ad 9 s (eM ad cs S) s.heap [] := ⟨hG, hH, va_S.rf⟩
  have hx := C.1.1
  have hb := C.1.2.1
  have h1 := hB.nb
  refine lv_aload_n hx hb d_M_tag_0 rfl (lv_at hl 0 rfl) ?_
  refine lv_iload_n hx hb d_M_tag_1 rfl (lv_at hl 1 rfl) ?_
  refine mc_ROi C hI (c_M_isPlace hG hR hB x) yv_M_isPlace k_ml_M_119 rfl (by decide) rfl hl.1 rfl (Nat.le_of_ble_eq_true rfl) d_M_tag_2 ⟨Nat.le_refl _, Nat.le_refl _⟩ (fun r hp => ?_)
  subst hp
  cases hin : inR (4 * nb) x with
  | none =>
    refine bb_eq (tgt := 17) C d_M_tag_5 (by decide) (fun k1 => ?_) (fun k1 => ?_)
    · refine lv_iconst (v := -1) hx hb d_M_tag_17 (by decide) ?_
      exact rt_ROi C hr hlk (by rw [sTag, hin]) d_M_tag_18
    · cases k1
  | some q =>
    obtain ⟨hxq, hq⟩ := inR_some (by omega) hin
    subst hxq
    refine bb_eq (tgt := 17) C d_M_tag_5 (by decide) (fun k1 => ?_) (fun k1 => ?_)
    · cases k1
    · refine lv_aload_n hx hb d_M_tag_8 rfl (lv_at hl 0 rfl) ?_
      refine m_getr C hI 2 (by decide) k_fl_M_7 rfl 1 rfl d_M_tag_9 ?_
      refine lv_iload_n hx hb d_M_tag_12 rfl (lv_at hl 1 rfl) ?_
      refine m_ald C hI 0 (by omega) (i := q) (show q < 48 by omega) (hR.sc _ hq) d_M_tag_13 ?_
      refine lv_goto (tgt := 18) hx hb d_M_tag_14 (by decide) ?_
      exact rt_ROi C hr hlk (by rw [sTag, hin]) d_M_tag_18
theorem c_M_serial (hG : Geo ad 9) (hR : RM nb sp F S) (hB : WB nb sp F) (x : Int32) : ROi l D cs ad 9 (eM ad cs S) y_M_serial b_M_serial 2 (some .int) 2 [.ref (ad 0), .int x] (fun r => r = sSerial nb F x) := by
  refine MC.intro (by decide) (Nat.le_of_ble_eq_true rfl) ?_
  intro p e s m below meth c C hr hlk hnm hH ls hl
  have hI : In D ad 9 s (eM ad cs S) s.heap [] := ⟨hG, hH, va_S.rf⟩
  have hx := C.1.1
  have hb := C.1.2.1
  have h1 := hB.nb
  refine lv_aload_n hx hb d_M_serial_0 rfl (lv_at hl 0 rfl) ?_
  refine lv_iload_n hx hb d_M_serial_1 rfl (lv_at hl 1 rfl) ?_
  refine mc_ROi C hI (c_M_isPlace hG hR hB x) yv_M_isPlace k_ml_M_119 rfl (by decide) rfl hl.1 rfl (Nat.le_of_ble_eq_true rfl) d_M_serial_2 ⟨Nat.le_refl _, Nat.le_refl _⟩ (fun r hp => ?_)
  subst hp
  cases hin : inR (4 * nb) x with
  | none =>
    refine bb_eq (tgt := 27) C d_M_serial_5 (by decide) (fun k1 => ?_) (fun k1 => ?_)
    · refine lv_iconst (v := -1) hx hb d_M_serial_27 (by decide) ?_
      exact rt_ROi C hr hlk (by rw [sSerial, hin]) d_M_serial_28
    · cases k1
  | some q =>
    obtain ⟨hxq, hq⟩ := inR_some (by omega) hin
    subst hxq
    refine bb_eq (tgt := 27) C d_M_serial_5 (by decide) (fun k1 => ?_) (fun k1 => ?_)
    · cases k1
    · refine lv_aload_n hx hb d_M_serial_8 rfl (lv_at hl 0 rfl) ?_
      refine m_getr C hI 2 (by decide) k_fl_M_7 rfl 1 rfl d_M_serial_9 ?_
      refine lv_iload_n hx hb d_M_serial_12 rfl (lv_at hl 1 rfl) ?_
      refine m_ald C hI 0 (by omega) (i := q) (show q < 48 by omega) (hR.sc _ hq) d_M_serial_13 ?_
      refine lv_iconst (v := -1) hx hb d_M_serial_14 (by decide) ?_
      by_cases hp : prg F q = true
      · rw [if_pos hp]
        refine lv_icmp_eq (tgt := 27) hx hb d_M_serial_15 (by decide) (fun k2 => ?_) (fun k2 => ?_)
        · exact absurd k2 (nI_nem1 (by have := hB.sc _ hq hp; omega))
        · refine lv_aload_n hx hb d_M_serial_18 rfl (lv_at hl 0 rfl) ?_
          refine m_getr C hI 4 (by decide) k_fl_M_16 rfl 3 rfl d_M_serial_19 ?_
          refine lv_iload_n hx hb d_M_serial_22 rfl (lv_at hl 1 rfl) ?_
          refine m_ald C hI 2 (by omega) (i := q) (show q < 48 by omega) (hR.pg _ hq hp).2.1 d_M_serial_23 ?_
          refine lv_goto (tgt := 28) hx hb d_M_serial_24 (by decide) ?_
          exact rt_ROi C hr hlk (by rw [sSerial, hin]; dsimp only; rw [if_pos hp]) d_M_serial_28
      · rw [if_neg hp]
        refine lv_icmp_eq (tgt := 27) hx hb d_M_serial_15 (by decide) (fun k2 => ?_) (fun k2 => ?_)
        · refine lv_iconst (v := -1) hx hb d_M_serial_27 (by decide) ?_
          exact rt_ROi C hr hlk (by rw [sSerial, hin]; dsimp only; rw [if_neg hp]) d_M_serial_28
        · exact absurd rfl k2
theorem c_M_valid (hG : Geo ad 9) (hR : RM nb sp F S) (hB : WB nb sp F) (x : Int32) : ROi l D cs ad 9 (eM ad cs S) y_M_valid b_M_valid 2 (some .int) 3 [.ref (ad 0), .int x] (fun r => r = sValid nb F x) := by
  refine MC.intro (by decide) (Nat.le_of_ble_eq_true rfl) ?_
  intro p e s m below meth c C hr hlk hnm hH ls hl
  have hI : In D ad 9 s (eM ad cs S) s.heap [] := ⟨hG, hH, va_S.rf⟩
  have hx := C.1.1
  have hb := C.1.2.1
  have h1 := hB.nb
  refine lv_aload_n hx hb d_M_valid_0 rfl (lv_at hl 0 rfl) ?_
  refine lv_iload_n hx hb d_M_valid_1 rfl (lv_at hl 1 rfl) ?_
  refine mc_ROi C hI (c_M_isBlock hG hR hB x) yv_M_isBlock k_ml_M_122 rfl (by decide) rfl hl.1 rfl (Nat.le_of_ble_eq_true rfl) d_M_valid_2 ⟨Nat.le_refl _, Nat.le_refl _⟩ (fun r hp => ?_)
  subst hp
  cases hin : inR nb x with
  | none =>
    refine bb_eq (tgt := 16) C d_M_valid_5 (by decide) (fun k1 => ?_) (fun k1 => ?_)
    · refine lv_iconst (v := -1) hx hb d_M_valid_16 (by decide) ?_
      exact rt_ROi C hr hlk (by rw [sValid, hin]) d_M_valid_17
    · cases k1
  | some q =>
    obtain ⟨hxq, hq⟩ := inR_some (by omega) hin
    subst hxq
    refine bb_eq (tgt := 16) C d_M_valid_5 (by decide) (fun k1 => ?_) (fun k1 => ?_)
    · cases k1
    · refine lv_aload_n hx hb d_M_valid_8 rfl (lv_at hl 0 rfl) ?_
      refine lv_iload_n hx hb d_M_valid_9 rfl (lv_at hl 1 rfl) ?_
      refine mc_ROi C hI (c_M_validIn hG hR hB hq) yv_M_validIn k_ml_M_60 rfl (by decide) rfl hl.1 rfl (Nat.le_of_ble_eq_true rfl) d_M_valid_10 ⟨Nat.le_refl _, Nat.le_refl _⟩ (fun r hp => ?_)
      refine lv_goto (tgt := 17) hx hb d_M_valid_13 (by decide) ?_
      exact rt_ROi C hr hlk (by rw [sValid, hin]; exact hp) d_M_valid_17
theorem c_M_erasures (hG : Geo ad 9) (hR : RM nb sp F S) (hB : WB nb sp F) (x : Int32) : ROi l D cs ad 9 (eM ad cs S) y_M_erasures b_M_erasures 2 (some .int) 2 [.ref (ad 0), .int x] (fun r => r = sErasures nb F x) := by
  refine MC.intro (by decide) (Nat.le_of_ble_eq_true rfl) ?_
  intro p e s m below meth c C hr hlk hnm hH ls hl
  have hI : In D ad 9 s (eM ad cs S) s.heap [] := ⟨hG, hH, va_S.rf⟩
  have hx := C.1.1
  have hb := C.1.2.1
  have h1 := hB.nb
  refine lv_aload_n hx hb d_M_erasures_0 rfl (lv_at hl 0 rfl) ?_
  refine lv_iload_n hx hb d_M_erasures_1 rfl (lv_at hl 1 rfl) ?_
  refine mc_ROi C hI (c_M_isBlock hG hR hB x) yv_M_isBlock k_ml_M_122 rfl (by decide) rfl hl.1 rfl (Nat.le_of_ble_eq_true rfl) d_M_erasures_2 ⟨Nat.le_refl _, Nat.le_refl _⟩ (fun r hp => ?_)
  subst hp
  cases hin : inR nb x with
  | none =>
    refine bb_eq (tgt := 17) C d_M_erasures_5 (by decide) (fun k1 => ?_) (fun k1 => ?_)
    · refine lv_iconst (v := -1) hx hb d_M_erasures_17 (by decide) ?_
      exact rt_ROi C hr hlk (by rw [sErasures, hin]) d_M_erasures_18
    · cases k1
  | some q =>
    obtain ⟨hxq, hq⟩ := inR_some (by omega) hin
    subst hxq
    refine bb_eq (tgt := 17) C d_M_erasures_5 (by decide) (fun k1 => ?_) (fun k1 => ?_)
    · cases k1
    · refine lv_aload_n hx hb d_M_erasures_8 rfl (lv_at hl 0 rfl) ?_
      refine m_getr C hI 6 (by decide) k_fl_M_22 rfl 5 rfl d_M_erasures_9 ?_
      refine lv_iload_n hx hb d_M_erasures_12 rfl (lv_at hl 1 rfl) ?_
      refine m_ald C hI 4 (by omega) (i := q) (show q < 12 by omega) (hR.er _ hq) d_M_erasures_13 ?_
      refine lv_goto (tgt := 18) hx hb d_M_erasures_14 (by decide) ?_
      exact rt_ROi C hr hlk (by rw [sErasures, hin]) d_M_erasures_18
end MG
end
section
/-! THE CLASS's cells: its object at ad 0; blocks, places, heap, buffer at ad 1 .. ad 4; the policies at ad 5, ad 6; entries at ad 7 .. ad 9; block b at ad (5 * b + 10), its arrays at ad (5 * b + 11) .. -/
abbrev SW : Type := (Nat → Int32) × Option Nat × (Nat → Nat → Int32) × (Nat → Nat → Nat → Int32) × (Nat → Int32) × (Nat → Option Nat) × (Nat → Option Nat) × (Nat → Nat → Int32)
abbrev mainW (ad : Nat → Nat) (S : SW) : List Value := [.int (S.1 0), .ref (ad 1), .ref (ad 2), .int (S.1 3), .int (S.1 4), .int (S.1 5), va_rf S.2.1, .ref (ad 3), .int (S.1 8), .ref (ad 4), .int (S.1 10), .ref (ad 5), .ref (ad 6)]
abbrev blkW (ad : Nat → Nat) (S : SW) (b : Nat) : List Value := [.int (nI b), .int (S.2.2.1 1 b), .int (S.2.2.1 2 b), .int (S.2.2.1 3 b), .ref (ad (5 * b + 11)), .ref (ad (5 * b + 12)), .ref (ad (5 * b + 13)), .ref (ad (5 * b + 14))]
abbrev entW (S : SW) (j : Nat) : List Value := [.int (S.2.2.2.2.2.2.2 0 j), .int (S.2.2.2.2.2.2.2 1 j), .int (S.2.2.2.2.2.2.2 2 j)]
def blkE (ad : Nat → Nat) (cs : Nat → ClassId) (S : SW) (b r : Nat) : va_E := match r with
  | 0 => .inr (0, blkW ad S b)
  | 1 => .inl (cs 0, 4, .inl (S.2.2.2.1 0 b))
  | 2 => .inl (cs 1, 4, .inl (S.2.2.2.1 1 b))
  | 3 => .inl (cs 1, 4, .inl (S.2.2.2.1 2 b))
  | _ => .inl (cs 2, 4, .inl (S.2.2.2.1 3 b))
def eC (ad : Nat → Nat) (cs : Nat → ClassId) (nb : Nat) (S : SW) (j : Nat) : va_E := match j with
  | 0 => .inr (4, mainW ad S)
  | 1 => .inl (cs 3, nb, .inr (.inr (.inr (.inr (fun i => some (ad (5 * i + 10)))))))
  | 2 => .inl (cs 0, 4 * (nb - 3), .inl S.2.2.2.2.1)
  | 3 => .inl (cs 3, nb, .inr (.inr (.inr (.inr S.2.2.2.2.2.1))))
  | 4 => .inl (cs 4, 3, .inr (.inr (.inr (.inr S.2.2.2.2.2.2.1))))
  | 5 => .inr (2, [])
  | 6 => .inr (3, [])
  | 7 => .inr (1, entW S 0)
  | 8 => .inr (1, entW S 1)
  | 9 => .inr (1, entW S 2)
  | k + 10 => blkE ad cs S (k / 5) (k % 5)
theorem eC_b {ad : Nat → Nat} {cs : Nat → ClassId} {nb : Nat} {S : SW} (b r : Nat) (hr : r < 5) : eC ad cs nb S (5 * b + (10 + r)) = blkE ad cs S b r := by
  rw [show 5 * b + (10 + r) = (5 * b + r) + 10 by omega]
  show blkE ad cs S ((5 * b + r) / 5) ((5 * b + r) % 5) = _
  rw [show (5 * b + r) / 5 = b by omega, show (5 * b + r) % 5 = r by omega]
theorem eC_e {ad : Nat → Nat} {cs : Nat → ClassId} {nb : Nat} {S : SW} (j : Nat) (hj : j < 3) : eC ad cs nb S (j + 7) = .inr (1, entW S j) := by
  rcases (show j = 0 ∨ j = 1 ∨ j = 2 by omega) with rfl | rfl | rfl <;> rfl
/-- places of the world -/
theorem eC_cases (nb : Nat) {P : Nat → Prop} (h0 : P 0) (h1 : P 1) (h2 : P 2) (h3 : P 3) (h4 : P 4) (h5 : P 5) (h6 : P 6) (he : ∀ j, j < 3 → P (j + 7)) (hb : ∀ b r, b < nb → r < 5 → P (5 * b + (10 + r))) : ∀ j, j < 5 * nb + 10 → P j := by
  intro j hj
  rcases (show j = 0 ∨ j = 1 ∨ j = 2 ∨ j = 3 ∨ j = 4 ∨ j = 5 ∨ j = 6 ∨ (7 ≤ j ∧ j < 10) ∨ 10 ≤ j by omega) with rfl | rfl | rfl | rfl | rfl | rfl | rfl | h | h
  · exact h0
  · exact h1
  · exact h2
  · exact h3
  · exact h4
  · exact h5
  · exact h6
  · have := he (j - 7) (by omega)
    rwa [show j - 7 + 7 = j by omega] at this
  · have := hb ((j - 10) / 5) ((j - 10) % 5) (by omega) (by omega)
    rwa [show 5 * ((j - 10) / 5) + (10 + (j - 10) % 5) = j by omega] at this
section WX
variable {p : Program} {l : Launch} {e : Env} {R : Room} {s : State} {m : MethodId} {args : Array Value} {below : List Frame} {meth : Method} {c : Code} {H : Heap} {locs : List Loc} {cells slots : Nat} {Q : State → Prop}
variable {cc : ByteArray} {nL pc : Nat} {ls : Array Slot} {rest : List Value} {D : va_G} {cs : Nat → ClassId} {ad : Nat → Nat} {nb : Nat} {S : SW} {index : Nat} {own : String}
theorem w_geti (C : Cc p m c cc nL s args R_W D cs) (hI : In D ad (5 * nb + 10) s (eC ad cs nb S) H locs) (k : Nat) (hk : k < 13) (hlink : Cond.fieldLink R_W index "WornFlash" (F_W k).2.1 (F_W k).2.2.1 ∈ tbG) (hr : (F_W k).1 = "WornFlash") (hw : (mainW ad S)[k]? = some (.int (S.1 k))) {v : Int32} (hv : S.1 k = v) (hdg : decode cc pc = .ok (.getfield index, 3))
    (kk : W p l e R s m args below meth c H locs cells slots Q (F0 m (pc + 3) ls (.int v :: rest))) : W p l e R s m args below meth c H locs cells slots Q (F0 m pc ls (.ref (ad 0) :: rest)) := by
  subst hv
  exact x_gf C hI (Cn := R_W) (T := F_W) (N := 13) i_W 0 (by omega) (ci := 4) rfl rfl k hk hlink hr hw hdg kk
theorem w_getr (C : Cc p m c cc nL s args R_W D cs) (hI : In D ad (5 * nb + 10) s (eC ad cs nb S) H locs) (k : Nat) (hk : k < 13) (hlink : Cond.fieldLink R_W index "WornFlash" (F_W k).2.1 (F_W k).2.2.1 ∈ tbG) (hr : (F_W k).1 = "WornFlash") (j : Nat) (hw : (mainW ad S)[k]? = some (.ref (ad j))) (hdg : decode cc pc = .ok (.getfield index, 3))
    (kk : W p l e R s m args below meth c H locs cells slots Q (F0 m (pc + 3) ls (.ref (ad j) :: rest))) : W p l e R s m args below meth c H locs cells slots Q (F0 m pc ls (.ref (ad 0) :: rest)) :=
  x_gf C hI (Cn := R_W) (T := F_W) (N := 13) i_W 0 (by omega) (ci := 4) rfl rfl k hk hlink hr hw hdg kk
theorem w_geto (C : Cc p m c cc nL s args R_W D cs) (hI : In D ad (5 * nb + 10) s (eC ad cs nb S) H locs) (hlink : Cond.fieldLink R_W index "WornFlash" (F_W 6).2.1 (F_W 6).2.2.1 ∈ tbG) {o : Option Nat} (hv : S.2.1 = o) (hdg : decode cc pc = .ok (.getfield index, 3))
    (kk : W p l e R s m args below meth c H locs cells slots Q (F0 m (pc + 3) ls (va_rf o :: rest))) : W p l e R s m args below meth c H locs cells slots Q (F0 m pc ls (.ref (ad 0) :: rest)) := by
  subst hv
  exact x_gf C hI (Cn := R_W) (T := F_W) (N := 13) i_W 0 (by omega) (ci := 4) rfl rfl 6 (by omega) hlink rfl rfl hdg kk
theorem w_same {S' : SW} (h1 : S'.2.2.2.2 = S.2.2.2.2) (h2 : S'.2.2.1 = S.2.2.1) (h3 : S'.2.2.2.1 = S.2.2.2.1) : ∀ j, j ≠ 0 → eC ad cs nb S j = eC ad cs nb S' j := by
  intro j hj
  obtain ⟨I, O, BI, BA, r⟩ := S
  obtain ⟨I', O', BI', BA', r'⟩ := S'
  cases h1; cases h2; cases h3
  match j, hj with
  | 1, _ | 2, _ | 3, _ | 4, _ | 5, _ | 6, _ | 7, _ | 8, _ | 9, _ => rfl
  | k + 10, _ => rfl
theorem w_puti (C : Cc p m c cc nL s args R_W D cs) (hI : In D ad (5 * nb + 10) s (eC ad cs nb S) H locs) (k : Nat) (hk : k = 3 ∨ k = 4 ∨ k = 5 ∨ k = 8 ∨ k = 10) (hlink : Cond.fieldLink R_W index "WornFlash" (F_W k).2.1 (F_W k).2.2.1 ∈ tbG) (hr : (F_W k).1 = "WornFlash") (hfin : (F_W k).2.2.2 = false) {v : Int32} (hn : narrow (t_W k) (.int v) = .int v) (hfit : fits (t_W k) (.int v) = true) (hdg : decode cc pc = .ok (.putfield index, 3))
    (kk : ∀ (H1 : Heap) (locs1 : List Loc) (WI : Nat → Int32), WI = va_up S.1 k v → In D ad (5 * nb + 10) s (eC ad cs nb (WI, S.2)) H1 locs1 → W p l e R s m args below meth c H1 locs1 cells slots Q (F0 m (pc + 3) ls rest)) : W p l e R s m args below meth c H locs cells slots Q (F0 m pc ls (.int v :: .ref (ad 0) :: rest)) := by
  refine x_pf C hI (Cn := R_W) (T := F_W) (N := 13) i_W t_W t_W_ok n_W 0 (by omega) (ci := 4) rfl rfl k (by omega) hlink hr hfin hn hfit (by show k < 13; omega) hdg (fun H1 locs1 hI1 => kk H1 locs1 _ rfl (hI1.congr (fun j hj => ?_)))
  by_cases h : j = 0
  · subst h
    rw [va_up_self]
    rcases hk with rfl | rfl | rfl | rfl | rfl <;> simp [eC, va_up]
  · rw [va_up_ne _ _ h]
    exact w_same (S := S) (S' := (va_up S.1 k v, S.2)) rfl rfl rfl j h
theorem w_puto (C : Cc p m c cc nL s args R_W D cs) (hI : In D ad (5 * nb + 10) s (eC ad cs nb S) H locs) (hlink : Cond.fieldLink R_W index "WornFlash" (F_W 6).2.1 (F_W 6).2.2.1 ∈ tbG) (o : Option Nat) (hdg : decode cc pc = .ok (.putfield index, 3))
    (kk : ∀ (H1 : Heap) (locs1 : List Loc), In D ad (5 * nb + 10) s (eC ad cs nb (S.1, o, S.2.2)) H1 locs1 → W p l e R s m args below meth c H1 locs1 cells slots Q (F0 m (pc + 3) ls rest)) : W p l e R s m args below meth c H locs cells slots Q (F0 m pc ls (va_rf o :: .ref (ad 0) :: rest)) := by
  refine x_pf C hI (Cn := R_W) (T := F_W) (N := 13) i_W t_W t_W_ok n_W 0 (by omega) (ci := 4) rfl rfl 6 (by omega) hlink rfl rfl (by cases o <;> rfl) (by cases o <;> rfl) (show 6 < 13 by omega) hdg (fun H1 locs1 hI1 => kk H1 locs1 (hI1.congr (fun j hj => ?_)))
  by_cases h : j = 0
  · subst h
    rw [va_up_self]
    rfl
  · rw [va_up_ne _ _ h]
    exact w_same (S := S) (S' := (S.1, o, S.2.2)) rfl rfl rfl j h
theorem w_blk (C : Cc p m c cc nL s args own D cs) (hI : In D ad (5 * nb + 10) s (eC ad cs nb S) H locs) {b : Nat} (hb : b < nb) (hN : nb < 2 ^ 31) (hdg : decode cc pc = .ok (.aaload, 1))
    (kk : W p l e R s m args below meth c H locs cells slots Q (F0 m (pc + 1) ls (.ref (ad (5 * b + 10)) :: rest))) : W p l e R s m args below meth c H locs cells slots Q (F0 m pc ls (.int (nI b) :: .ref (ad 1) :: rest)) :=
  x_aald C hI 1 (by omega) (t0 := 3) rfl rfl hb hN (v := some (ad (5 * b + 10))) rfl hdg kk
theorem w_pl (C : Cc p m c cc nL s args own D cs) (hI : In D ad (5 * nb + 10) s (eC ad cs nb S) H locs) {i : Nat} (hi : i < 4 * (nb - 3)) (hN : 4 * (nb - 3) < 2 ^ 31) {v : Int32} (hv : S.2.2.2.2.1 i = v) (hdg : decode cc pc = .ok (.baload, 1))
    (kk : W p l e R s m args below meth c H locs cells slots Q (F0 m (pc + 1) ls (.int v :: rest))) : W p l e R s m args below meth c H locs cells slots Q (F0 m pc ls (.int (nI i) :: .ref (ad 2) :: rest)) :=
  x_bald C hI 2 (by omega) rfl hi hN hv hdg kk
theorem w_hp (C : Cc p m c cc nL s args own D cs) (hI : In D ad (5 * nb + 10) s (eC ad cs nb S) H locs) {i : Nat} (hi : i < nb) (hN : nb < 2 ^ 31) {a : Nat} (hv : S.2.2.2.2.2.1 i = some a) (hdg : decode cc pc = .ok (.aaload, 1))
    (kk : W p l e R s m args below meth c H locs cells slots Q (F0 m (pc + 1) ls (.ref a :: rest))) : W p l e R s m args below meth c H locs cells slots Q (F0 m pc ls (.int (nI i) :: .ref (ad 3) :: rest)) :=
  x_aald C hI 3 (by omega) (t0 := 3) rfl rfl hi hN hv hdg kk
theorem w_bf (C : Cc p m c cc nL s args own D cs) (hI : In D ad (5 * nb + 10) s (eC ad cs nb S) H locs) {i : Nat} (hi : i < 3) {a : Nat} (hv : S.2.2.2.2.2.2.1 i = some a) (hdg : decode cc pc = .ok (.aaload, 1))
    (kk : W p l e R s m args below meth c H locs cells slots Q (F0 m (pc + 1) ls (.ref a :: rest))) : W p l e R s m args below meth c H locs cells slots Q (F0 m pc ls (.int (nI i) :: .ref (ad 4) :: rest)) :=
  x_aald C hI 4 (by omega) (t0 := 4) rfl rfl hi (by omega) hv hdg kk
theorem w_plp (C : Cc p m c cc nL s args own D cs) (hI : In D ad (5 * nb + 10) s (eC ad cs nb S) H locs) {i : Nat} (hi : i < 4 * (nb - 3)) (hN : 4 * (nb - 3) < 2 ^ 31) {x v : Int32} (hv : vp_nar .byte x = v) (hdg : decode cc pc = .ok (.bastore, 1))
    (kk : ∀ (H1 : Heap) (locs1 : List Loc) (PL : Nat → Int32), PL = va_up S.2.2.2.2.1 i v → In D ad (5 * nb + 10) s (eC ad cs nb (S.1, S.2.1, S.2.2.1, S.2.2.2.1, PL, S.2.2.2.2.2)) H1 locs1 → W p l e R s m args below meth c H1 locs1 cells slots Q (F0 m (pc + 1) ls rest)) : W p l e R s m args below meth c H locs cells slots Q (F0 m pc ls (.int x :: .int (nI i) :: .ref (ad 2) :: rest)) := by
  refine x_bast C hI 2 (by omega) rfl hi hN hv hdg (fun H1 locs1 hI1 => kk H1 locs1 _ rfl (hI1.congr (fun j hj => ?_)))
  by_cases h : j = 2
  · subst h; rw [va_up_self]; rfl
  · rw [va_up_ne _ _ h]
    match j, h with
    | 0, _ | 1, _ | 3, _ | 4, _ | 5, _ | 6, _ | 7, _ | 8, _ | 9, _ => rfl
    | k + 10, _ => rfl
theorem w_hpp (C : Cc p m c cc nL s args own D cs) (hI : In D ad (5 * nb + 10) s (eC ad cs nb S) H locs) {i b : Nat} (hi : i < nb) (hb : b < nb) (hN : nb < 2 ^ 31) (hdg : decode cc pc = .ok (.aastore, 1))
    (kk : ∀ (H1 : Heap) (locs1 : List Loc) (HP : Nat → Option Nat), HP = va_up S.2.2.2.2.2.1 i (some (ad (5 * b + 10))) → In D ad (5 * nb + 10) s (eC ad cs nb (S.1, S.2.1, S.2.2.1, S.2.2.2.1, S.2.2.2.2.1, HP, S.2.2.2.2.2.2)) H1 locs1 → W p l e R s m args below meth c H1 locs1 cells slots Q (F0 m (pc + 1) ls rest)) : W p l e R s m args below meth c H locs cells slots Q (F0 m pc ls (.ref (ad (5 * b + 10)) :: .int (nI i) :: .ref (ad 3) :: rest)) := by
  refine x_aast C hI 3 (by omega) (t0 := 3) (ci := 0) (r := (R_B, F_B, 8)) rfl rfl (jv := 5 * b + 10) (by omega) (eC_b b 0 (by omega)) rfl hi hN hdg (fun H1 locs1 hI1 => kk H1 locs1 _ rfl (hI1.congr (fun j hj => ?_)))
  by_cases h : j = 3
  · subst h; rw [va_up_self]; rfl
  · rw [va_up_ne _ _ h]
    match j, h with
    | 0, _ | 1, _ | 2, _ | 4, _ | 5, _ | 6, _ | 7, _ | 8, _ | 9, _ => rfl
    | k + 10, _ => rfl
theorem w_bfp (C : Cc p m c cc nL s args own D cs) (hI : In D ad (5 * nb + 10) s (eC ad cs nb S) H locs) {i jv : Nat} (hi : i < 3) (hj : jv < 3) (hdg : decode cc pc = .ok (.aastore, 1))
    (kk : ∀ (H1 : Heap) (locs1 : List Loc) (BF : Nat → Option Nat), BF = va_up S.2.2.2.2.2.2.1 i (some (ad (jv + 7))) → In D ad (5 * nb + 10) s (eC ad cs nb (S.1, S.2.1, S.2.2.1, S.2.2.2.1, S.2.2.2.2.1, S.2.2.2.2.2.1, BF, S.2.2.2.2.2.2.2)) H1 locs1 → W p l e R s m args below meth c H1 locs1 cells slots Q (F0 m (pc + 1) ls rest)) : W p l e R s m args below meth c H locs cells slots Q (F0 m pc ls (.ref (ad (jv + 7)) :: .int (nI i) :: .ref (ad 4) :: rest)) := by
  refine x_aast C hI 4 (by omega) (t0 := 4) (ci := 1) (r := (R_E, F_E, 3)) rfl rfl (jv := jv + 7) (by omega) (eC_e jv hj) rfl hi (by omega) hdg (fun H1 locs1 hI1 => kk H1 locs1 _ rfl (hI1.congr (fun j hj => ?_)))
  by_cases h : j = 4
  · subst h; rw [va_up_self]; rfl
  · rw [va_up_ne _ _ h]
    match j, h with
    | 0, _ | 1, _ | 2, _ | 3, _ | 5, _ | 6, _ | 7, _ | 8, _ | 9, _ => rfl
    | k + 10, _ => rfl
theorem w_plen (C : Cc p m c cc nL s args own D cs) (hI : In D ad (5 * nb + 10) s (eC ad cs nb S) H locs) (hdg : decode cc pc = .ok (.arraylength, 1))
    (kk : W p l e R s m args below meth c H locs cells slots Q (F0 m (pc + 1) ls (.int (nI (4 * (nb - 3))) :: rest))) : W p l e R s m args below meth c H locs cells slots Q (F0 m pc ls (.ref (ad 2) :: rest)) := x_alen C hI 2 (by omega) (t0 := 0) rfl rfl rfl hdg kk
theorem w_blen (C : Cc p m c cc nL s args own D cs) (hI : In D ad (5 * nb + 10) s (eC ad cs nb S) H locs) (hdg : decode cc pc = .ok (.arraylength, 1))
    (kk : W p l e R s m args below meth c H locs cells slots Q (F0 m (pc + 1) ls (.int (nI nb) :: rest))) : W p l e R s m args below meth c H locs cells slots Q (F0 m pc ls (.ref (ad 1) :: rest)) := x_alen C hI 1 (by omega) (t0 := 3) rfl rfl rfl hdg kk
end WX
end
section
/-! THE CLASS: rows of blocks and entries; calls -/
section BX
variable {p : Program} {l : Launch} {e : Env} {R : Room} {s : State} {m : MethodId} {args : Array Value} {below : List Frame} {meth : Method} {c : Code} {H : Heap} {locs : List Loc} {cells slots : Nat} {Q : State → Prop}
variable {cc : ByteArray} {nL pc : Nat} {ls : Array Slot} {rest : List Value} {D : va_G} {cs : Nat → ClassId} {ad : Nat → Nat} {nb : Nat} {S : SW} {index : Nat} {own : String} {b : Nat}

theorem b_num (C : Cc p m c cc nL s args own D cs) (hI : In D ad (5 * nb + 10) s (eC ad cs nb S) H locs) (hb : b < nb) (hlink : Cond.fieldLink own index "WornFlash$Block" (F_B 0).2.1 (F_B 0).2.2.1 ∈ tbG) (hdg : decode cc pc = .ok (.getfield index, 3))
    (kk : W p l e R s m args below meth c H locs cells slots Q (F0 m (pc + 3) ls (.int (nI b) :: rest))) : W p l e R s m args below meth c H locs cells slots Q (F0 m pc ls (.ref (ad (5 * b + 10)) :: rest)) :=
  x_gf C hI (Cn := R_B) (T := F_B) (N := 8) i_B (5 * b + 10) (by omega) (ci := 0) (eC_b b 0 (by omega)) rfl 0 (by omega) hlink rfl rfl hdg kk
theorem b_geti (C : Cc p m c cc nL s args own D cs) (hI : In D ad (5 * nb + 10) s (eC ad cs nb S) H locs) (k : Nat) (hk : k = 1 ∨ k = 2 ∨ k = 3) (hb : b < nb) (hlink : Cond.fieldLink own index "WornFlash$Block" (F_B k).2.1 (F_B k).2.2.1 ∈ tbG) {v : Int32} (hv : S.2.2.1 k b = v) (hdg : decode cc pc = .ok (.getfield index, 3))
    (kk : W p l e R s m args below meth c H locs cells slots Q (F0 m (pc + 3) ls (.int v :: rest))) : W p l e R s m args below meth c H locs cells slots Q (F0 m pc ls (.ref (ad (5 * b + 10)) :: rest)) := by
  subst hv
  rcases hk with rfl | rfl | rfl
  · exact x_gf C hI (Cn := R_B) (T := F_B) (N := 8) i_B (5 * b + 10) (by omega) (ci := 0) (eC_b b 0 (by omega)) rfl 1 (by omega) hlink rfl rfl hdg kk
  · exact x_gf C hI (Cn := R_B) (T := F_B) (N := 8) i_B (5 * b + 10) (by omega) (ci := 0) (eC_b b 0 (by omega)) rfl 2 (by omega) hlink rfl rfl hdg kk
  · exact x_gf C hI (Cn := R_B) (T := F_B) (N := 8) i_B (5 * b + 10) (by omega) (ci := 0) (eC_b b 0 (by omega)) rfl 3 (by omega) hlink rfl rfl hdg kk
theorem bN_num {host : String} (C : Cc p m c cc nL s args own D cs) (hI : In D ad (5 * nb + 10) s (eC ad cs nb S) H locs) (hb : b < nb) (hlink : Cond.fieldLinkNest own index "WornFlash$Block" (F_B 0).2.1 (F_B 0).2.2.1 host ∈ tbN) (hdg : decode cc pc = .ok (.getfield index, 3))
    (kk : W p l e R s m args below meth c H locs cells slots Q (F0 m (pc + 3) ls (.int (nI b) :: rest))) : W p l e R s m args below meth c H locs cells slots Q (F0 m pc ls (.ref (ad (5 * b + 10)) :: rest)) :=
  x_gfN C hI (Cn := R_B) (T := F_B) (N := 8) i_B (5 * b + 10) (by omega) (ci := 0) (eC_b b 0 (by omega)) rfl 0 (by omega) hlink rfl rfl hdg kk
theorem bN_geti {host : String} (C : Cc p m c cc nL s args own D cs) (hI : In D ad (5 * nb + 10) s (eC ad cs nb S) H locs) (k : Nat) (hk : k = 1 ∨ k = 2 ∨ k = 3) (hb : b < nb) (hlink : Cond.fieldLinkNest own index "WornFlash$Block" (F_B k).2.1 (F_B k).2.2.1 host ∈ tbN) {v : Int32} (hv : S.2.2.1 k b = v) (hdg : decode cc pc = .ok (.getfield index, 3))
    (kk : W p l e R s m args below meth c H locs cells slots Q (F0 m (pc + 3) ls (.int v :: rest))) : W p l e R s m args below meth c H locs cells slots Q (F0 m pc ls (.ref (ad (5 * b + 10)) :: rest)) := by
  subst hv
  rcases hk with rfl | rfl | rfl
  · exact x_gfN C hI (Cn := R_B) (T := F_B) (N := 8) i_B (5 * b + 10) (by omega) (ci := 0) (eC_b b 0 (by omega)) rfl 1 (by omega) hlink rfl rfl hdg kk
  · exact x_gfN C hI (Cn := R_B) (T := F_B) (N := 8) i_B (5 * b + 10) (by omega) (ci := 0) (eC_b b 0 (by omega)) rfl 2 (by omega) hlink rfl rfl hdg kk
  · exact x_gfN C hI (Cn := R_B) (T := F_B) (N := 8) i_B (5 * b + 10) (by omega) (ci := 0) (eC_b b 0 (by omega)) rfl 3 (by omega) hlink rfl rfl hdg kk
theorem bN_getr {host : String} (C : Cc p m c cc nL s args own D cs) (hI : In D ad (5 * nb + 10) s (eC ad cs nb S) H locs) (k : Nat) (hk : k < 4) (hb : b < nb) (hlink : Cond.fieldLinkNest own index "WornFlash$Block" (F_B (k + 4)).2.1 (F_B (k + 4)).2.2.1 host ∈ tbN) (hdg : decode cc pc = .ok (.getfield index, 3))
    (kk : W p l e R s m args below meth c H locs cells slots Q (F0 m (pc + 3) ls (.ref (ad (5 * b + (11 + k))) :: rest))) : W p l e R s m args below meth c H locs cells slots Q (F0 m pc ls (.ref (ad (5 * b + 10)) :: rest)) := by
  rcases (show k = 0 ∨ k = 1 ∨ k = 2 ∨ k = 3 by omega) with rfl | rfl | rfl | rfl
  · exact x_gfN C hI (Cn := R_B) (T := F_B) (N := 8) i_B (5 * b + 10) (by omega) (ci := 0) (eC_b b 0 (by omega)) rfl 4 (by omega) hlink rfl rfl hdg kk
  · exact x_gfN C hI (Cn := R_B) (T := F_B) (N := 8) i_B (5 * b + 10) (by omega) (ci := 0) (eC_b b 0 (by omega)) rfl 5 (by omega) hlink rfl rfl hdg kk
  · exact x_gfN C hI (Cn := R_B) (T := F_B) (N := 8) i_B (5 * b + 10) (by omega) (ci := 0) (eC_b b 0 (by omega)) rfl 6 (by omega) hlink rfl rfl hdg kk
  · exact x_gfN C hI (Cn := R_B) (T := F_B) (N := 8) i_B (5 * b + 10) (by omega) (ci := 0) (eC_b b 0 (by omega)) rfl 7 (by omega) hlink rfl rfl hdg kk
theorem w_sameB {S' : SW} (h1 : S'.1 = S.1) (h2 : S'.2.1 = S.2.1) (h3 : S'.2.2.2.2 = S.2.2.2.2) : ∀ j, j < 10 → eC ad cs nb S j = eC ad cs nb S' j := by
  intro j hj
  obtain ⟨I, O, BI, BA, r⟩ := S
  obtain ⟨I', O', BI', BA', r'⟩ := S'
  cases h1; cases h2; cases h3
  match j, hj with
  | 0, _ | 1, _ | 2, _ | 3, _ | 4, _ | 5, _ | 6, _ | 7, _ | 8, _ | 9, _ => rfl
theorem b_upd {S' : SW} {x : va_E} {r0 : Nat} (hr0 : r0 < 5) (h1 : S'.1 = S.1) (h2 : S'.2.1 = S.2.1) (h3 : S'.2.2.2.2 = S.2.2.2.2) (he : blkE ad cs S' b r0 = x) (ho : ∀ b' r, r < 5 → (b' ≠ b ∨ r ≠ r0) → blkE ad cs S' b' r = blkE ad cs S b' r) : ∀ j, j < 5 * nb + 10 → va_up (eC ad cs nb S) (5 * b + (10 + r0)) x j = eC ad cs nb S' j := by
  intro j hj
  by_cases hj10 : j < 10
  · rw [va_up_ne _ _ (by omega)]
    exact w_sameB h1 h2 h3 j hj10
  · obtain ⟨b', r, hr, rfl⟩ : ∃ b' r, r < 5 ∧ j = 5 * b' + (10 + r) := ⟨(j - 10) / 5, (j - 10) % 5, by omega, by omega⟩
    by_cases hb : b' = b ∧ r = r0
    · obtain ⟨rfl, rfl⟩ := hb
      rw [va_up_self, eC_b b' r hr, he]
    · rw [va_up_ne _ _ (by omega), eC_b b' r hr, eC_b b' r hr]
      exact (ho b' r hr (by omega)).symm
theorem bN_puti {host : String} (C : Cc p m c cc nL s args own D cs) (hI : In D ad (5 * nb + 10) s (eC ad cs nb S) H locs) (k : Nat) (hk : k = 1 ∨ k = 2 ∨ k = 3) (hb : b < nb) (hlink : Cond.fieldLinkNest own index "WornFlash$Block" (F_B k).2.1 (F_B k).2.2.1 host ∈ tbN) {v : Int32} (hdg : decode cc pc = .ok (.putfield index, 3))
    (kk : ∀ (H1 : Heap) (locs1 : List Loc) (BI : Nat → Nat → Int32), BI = up2 S.2.2.1 k b v → In D ad (5 * nb + 10) s (eC ad cs nb (S.1, S.2.1, BI, S.2.2.2)) H1 locs1 → W p l e R s m args below meth c H1 locs1 cells slots Q (F0 m (pc + 3) ls (rest))) : W p l e R s m args below meth c H locs cells slots Q (F0 m pc ls (.int v :: .ref (ad (5 * b + 10)) :: rest)) := by
  have key : ∀ H1 locs1, In D ad (5 * nb + 10) s (va_up (eC ad cs nb S) (5 * b + 10) (.inr (0, (blkW ad S b).set k (.int v)))) H1 locs1 → W p l e R s m args below meth c H1 locs1 cells slots Q (F0 m (pc + 3) ls (rest)) := by
    intro H1 locs1 hI1
    refine kk H1 locs1 _ rfl (hI1.congr (b_upd (r0 := 0) (by omega) rfl rfl rfl ?_ (fun b' r hr hne => ?_)))
    · rcases hk with rfl | rfl | rfl <;> simp [blkE, up2, va_up]
    · match r, hr with
      | 0, _ =>
        have hb' : b' ≠ b := by omega
        rcases hk with rfl | rfl | rfl <;> simp [blkE, up2, va_up, hb']
      | 1, _ | 2, _ | 3, _ | 4, _ => rfl
  rcases hk with rfl | rfl | rfl
  · exact x_pfN C hI (Cn := R_B) (T := F_B) (N := 8) i_B t_B t_B_ok n_B (5 * b + 10) (by omega) (ci := 0) (eC_b b 0 (by omega)) rfl 1 (by omega) hlink rfl rfl rfl rfl (show 1 < 8 by omega) hdg key
  · exact x_pfN C hI (Cn := R_B) (T := F_B) (N := 8) i_B t_B t_B_ok n_B (5 * b + 10) (by omega) (ci := 0) (eC_b b 0 (by omega)) rfl 2 (by omega) hlink rfl rfl rfl rfl (show 2 < 8 by omega) hdg key
  · exact x_pfN C hI (Cn := R_B) (T := F_B) (N := 8) i_B t_B t_B_ok n_B (5 * b + 10) (by omega) (ci := 0) (eC_b b 0 (by omega)) rfl 3 (by omega) hlink rfl rfl rfl rfl (show 3 < 8 by omega) hdg key
theorem bs_ald (C : Cc p m c cc nL s args own D cs) (hI : In D ad (5 * nb + 10) s (eC ad cs nb S) H locs) (hb : b < nb) {q : Nat} (hq : q < 4) {v : Int32} (hv : S.2.2.2.1 0 b q = v) (hdg : decode cc pc = .ok (.baload, 1))
    (kk : W p l e R s m args below meth c H locs cells slots Q (F0 m (pc + 1) ls (.int v :: rest))) : W p l e R s m args below meth c H locs cells slots Q (F0 m pc ls (.int (nI q) :: .ref (ad (5 * b + (11 + 0))) :: rest)) :=
  x_bald C hI (5 * b + (11 + 0)) (by omega) (eC_b b 1 (by omega)) hq (by omega) hv hdg kk
theorem bs_ast (C : Cc p m c cc nL s args own D cs) (hI : In D ad (5 * nb + 10) s (eC ad cs nb S) H locs) (hb : b < nb) {q : Nat} (hq : q < 4) {x v : Int32} (hv : vp_nar .byte x = v) (hdg : decode cc pc = .ok (.bastore, 1))
    (kk : ∀ (H1 : Heap) (locs1 : List Loc) (BA : Nat → Nat → Nat → Int32), BA = va_up S.2.2.2.1 0 (up2 (S.2.2.2.1 0) b q v) → In D ad (5 * nb + 10) s (eC ad cs nb (S.1, S.2.1, S.2.2.1, BA, S.2.2.2.2)) H1 locs1 → W p l e R s m args below meth c H1 locs1 cells slots Q (F0 m (pc + 1) ls (rest))) : W p l e R s m args below meth c H locs cells slots Q (F0 m pc ls (.int x :: .int (nI q) :: .ref (ad (5 * b + (11 + 0))) :: rest)) := by
  refine x_bast C hI (5 * b + (11 + 0)) (by omega) (eC_b b 1 (by omega)) hq (by omega) hv hdg (fun H1 locs1 hI1 => kk H1 locs1 _ rfl (hI1.congr (b_upd (r0 := 1) (by omega) rfl rfl rfl ?_ (fun b' r hr hne => ?_))))
  · simp [blkE, up2, va_up]
  · match r, hr with
    | 1, _ =>
      have hb' : b' ≠ b := by omega
      simp [blkE, up2, va_up, hb']
    | 0, _ | 2, _ | 3, _ | 4, _ => first | rfl | simp [blkE, up2, va_up]
theorem bv_ald (C : Cc p m c cc nL s args own D cs) (hI : In D ad (5 * nb + 10) s (eC ad cs nb S) H locs) (hb : b < nb) {q : Nat} (hq : q < 4) {v : Int32} (hv : S.2.2.2.1 1 b q = v) (hdg : decode cc pc = .ok (.iaload, 1))
    (kk : W p l e R s m args below meth c H locs cells slots Q (F0 m (pc + 1) ls (.int v :: rest))) : W p l e R s m args below meth c H locs cells slots Q (F0 m pc ls (.int (nI q) :: .ref (ad (5 * b + (11 + 1))) :: rest)) :=
  x_iald C hI (5 * b + (11 + 1)) (by omega) (eC_b b 2 (by omega)) hq (by omega) hv hdg kk
theorem bv_ast (C : Cc p m c cc nL s args own D cs) (hI : In D ad (5 * nb + 10) s (eC ad cs nb S) H locs) (hb : b < nb) {q : Nat} (hq : q < 4) {x v : Int32} (hdg : decode cc pc = .ok (.iastore, 1))
    (kk : ∀ (H1 : Heap) (locs1 : List Loc) (BA : Nat → Nat → Nat → Int32), BA = va_up S.2.2.2.1 1 (up2 (S.2.2.2.1 1) b q v) → In D ad (5 * nb + 10) s (eC ad cs nb (S.1, S.2.1, S.2.2.1, BA, S.2.2.2.2)) H1 locs1 → W p l e R s m args below meth c H1 locs1 cells slots Q (F0 m (pc + 1) ls (rest))) : W p l e R s m args below meth c H locs cells slots Q (F0 m pc ls (.int v :: .int (nI q) :: .ref (ad (5 * b + (11 + 1))) :: rest)) := by
  refine x_iast C hI (5 * b + (11 + 1)) (by omega) (eC_b b 2 (by omega)) hq (by omega) hdg (fun H1 locs1 hI1 => kk H1 locs1 _ rfl (hI1.congr (b_upd (r0 := 2) (by omega) rfl rfl rfl ?_ (fun b' r hr hne => ?_))))
  · simp [blkE, up2, va_up]
  · match r, hr with
    | 2, _ =>
      have hb' : b' ≠ b := by omega
      simp [blkE, up2, va_up, hb']
    | 0, _ | 1, _ | 3, _ | 4, _ => first | rfl | simp [blkE, up2, va_up]
theorem br_ald (C : Cc p m c cc nL s args own D cs) (hI : In D ad (5 * nb + 10) s (eC ad cs nb S) H locs) (hb : b < nb) {q : Nat} (hq : q < 4) {v : Int32} (hv : S.2.2.2.1 2 b q = v) (hdg : decode cc pc = .ok (.iaload, 1))
    (kk : W p l e R s m args below meth c H locs cells slots Q (F0 m (pc + 1) ls (.int v :: rest))) : W p l e R s m args below meth c H locs cells slots Q (F0 m pc ls (.int (nI q) :: .ref (ad (5 * b + (11 + 2))) :: rest)) :=
  x_iald C hI (5 * b + (11 + 2)) (by omega) (eC_b b 3 (by omega)) hq (by omega) hv hdg kk
theorem br_ast (C : Cc p m c cc nL s args own D cs) (hI : In D ad (5 * nb + 10) s (eC ad cs nb S) H locs) (hb : b < nb) {q : Nat} (hq : q < 4) {x v : Int32} (hdg : decode cc pc = .ok (.iastore, 1))
    (kk : ∀ (H1 : Heap) (locs1 : List Loc) (BA : Nat → Nat → Nat → Int32), BA = va_up S.2.2.2.1 2 (up2 (S.2.2.2.1 2) b q v) → In D ad (5 * nb + 10) s (eC ad cs nb (S.1, S.2.1, S.2.2.1, BA, S.2.2.2.2)) H1 locs1 → W p l e R s m args below meth c H1 locs1 cells slots Q (F0 m (pc + 1) ls (rest))) : W p l e R s m args below meth c H locs cells slots Q (F0 m pc ls (.int v :: .int (nI q) :: .ref (ad (5 * b + (11 + 2))) :: rest)) := by
  refine x_iast C hI (5 * b + (11 + 2)) (by omega) (eC_b b 3 (by omega)) hq (by omega) hdg (fun H1 locs1 hI1 => kk H1 locs1 _ rfl (hI1.congr (b_upd (r0 := 3) (by omega) rfl rfl rfl ?_ (fun b' r hr hne => ?_))))
  · simp [blkE, up2, va_up]
  · match r, hr with
    | 3, _ =>
      have hb' : b' ≠ b := by omega
      simp [blkE, up2, va_up, hb']
    | 0, _ | 1, _ | 2, _ | 4, _ => first | rfl | simp [blkE, up2, va_up]
theorem bt_ald (C : Cc p m c cc nL s args own D cs) (hI : In D ad (5 * nb + 10) s (eC ad cs nb S) H locs) (hb : b < nb) {q : Nat} (hq : q < 4) {v : Int32} (hv : S.2.2.2.1 3 b q = v) (hdg : decode cc pc = .ok (.baload, 1))
    (kk : W p l e R s m args below meth c H locs cells slots Q (F0 m (pc + 1) ls (.int v :: rest))) : W p l e R s m args below meth c H locs cells slots Q (F0 m pc ls (.int (nI q) :: .ref (ad (5 * b + (11 + 3))) :: rest)) :=
  x_zald C hI (5 * b + (11 + 3)) (by omega) (eC_b b 4 (by omega)) hq (by omega) hv hdg kk
theorem bt_ast (C : Cc p m c cc nL s args own D cs) (hI : In D ad (5 * nb + 10) s (eC ad cs nb S) H locs) (hb : b < nb) {q : Nat} (hq : q < 4) {x v : Int32} (hv : vp_nar .boolean x = v) (hdg : decode cc pc = .ok (.bastore, 1))
    (kk : ∀ (H1 : Heap) (locs1 : List Loc) (BA : Nat → Nat → Nat → Int32), BA = va_up S.2.2.2.1 3 (up2 (S.2.2.2.1 3) b q v) → In D ad (5 * nb + 10) s (eC ad cs nb (S.1, S.2.1, S.2.2.1, BA, S.2.2.2.2)) H1 locs1 → W p l e R s m args below meth c H1 locs1 cells slots Q (F0 m (pc + 1) ls (rest))) : W p l e R s m args below meth c H locs cells slots Q (F0 m pc ls (.int x :: .int (nI q) :: .ref (ad (5 * b + (11 + 3))) :: rest)) := by
  refine x_zast C hI (5 * b + (11 + 3)) (by omega) (eC_b b 4 (by omega)) hq (by omega) hv hdg (fun H1 locs1 hI1 => kk H1 locs1 _ rfl (hI1.congr (b_upd (r0 := 4) (by omega) rfl rfl rfl ?_ (fun b' r hr hne => ?_))))
  · simp [blkE, up2, va_up]
  · match r, hr with
    | 4, _ =>
      have hb' : b' ≠ b := by omega
      simp [blkE, up2, va_up, hb']
    | 0, _ | 1, _ | 2, _ | 3, _ => first | rfl | simp [blkE, up2, va_up]
theorem eN_geti {host : String} (C : Cc p m c cc nL s args own D cs) (hI : In D ad (5 * nb + 10) s (eC ad cs nb S) H locs) (k : Nat) (hk : k < 3) {j : Nat} (hj : j < 3) (hlink : Cond.fieldLinkNest own index "WornFlash$Entry" (F_E k).2.1 (F_E k).2.2.1 host ∈ tbN) {v : Int32} (hv : S.2.2.2.2.2.2.2 k j = v) (hdg : decode cc pc = .ok (.getfield index, 3))
    (kk : W p l e R s m args below meth c H locs cells slots Q (F0 m (pc + 3) ls (.int v :: rest))) : W p l e R s m args below meth c H locs cells slots Q (F0 m pc ls (.ref (ad (j + 7)) :: rest)) := by
  subst hv
  rcases (show k = 0 ∨ k = 1 ∨ k = 2 by omega) with rfl | rfl | rfl
  · exact x_gfN C hI (Cn := R_E) (T := F_E) (N := 3) i_E (j + 7) (by omega) (ci := 1) (eC_e j hj) rfl 0 (by omega) hlink rfl rfl hdg kk
  · exact x_gfN C hI (Cn := R_E) (T := F_E) (N := 3) i_E (j + 7) (by omega) (ci := 1) (eC_e j hj) rfl 1 (by omega) hlink rfl rfl hdg kk
  · exact x_gfN C hI (Cn := R_E) (T := F_E) (N := 3) i_E (j + 7) (by omega) (ci := 1) (eC_e j hj) rfl 2 (by omega) hlink rfl rfl hdg kk
theorem e_puti (C : Cc p m c cc nL s args own D cs) (hI : In D ad (5 * nb + 10) s (eC ad cs nb S) H locs) (k : Nat) (hk : k < 3) {j : Nat} (hj : j < 3) (hlink : Cond.fieldLink own index "WornFlash$Entry" (F_E k).2.1 (F_E k).2.2.1 ∈ tbG) {v : Int32} (hn : narrow (t_E k) (.int v) = .int v) (hfit : fits (t_E k) (.int v) = true) (hdg : decode cc pc = .ok (.putfield index, 3))
    (kk : ∀ (H1 : Heap) (locs1 : List Loc) (EI : Nat → Nat → Int32), EI = up2 S.2.2.2.2.2.2.2 k j v → In D ad (5 * nb + 10) s (eC ad cs nb (S.1, S.2.1, S.2.2.1, S.2.2.2.1, S.2.2.2.2.1, S.2.2.2.2.2.1, S.2.2.2.2.2.2.1, EI)) H1 locs1 → W p l e R s m args below meth c H1 locs1 cells slots Q (F0 m (pc + 3) ls (rest))) : W p l e R s m args below meth c H locs cells slots Q (F0 m pc ls (.int v :: .ref (ad (j + 7)) :: rest)) := by
  have key : ∀ H1 locs1, In D ad (5 * nb + 10) s (va_up (eC ad cs nb S) (j + 7) (.inr (1, (entW S j).set k (.int v)))) H1 locs1 → W p l e R s m args below meth c H1 locs1 cells slots Q (F0 m (pc + 3) ls (rest)) := by
    intro H1 locs1 hI1
    refine kk H1 locs1 _ rfl (hI1.congr (fun i hi => ?_))
    by_cases h : i = j + 7
    · subst h
      rw [va_up_self, eC_e j hj]
      rcases (show k = 0 ∨ k = 1 ∨ k = 2 by omega) with rfl | rfl | rfl <;> simp [up2, va_up]
    · rw [va_up_ne _ _ h]
      match i, h with
      | 0, _ | 1, _ | 2, _ | 3, _ | 4, _ | 5, _ | 6, _ => rfl
      | 7, h => rw [show 7 = 0 + 7 from rfl, eC_e 0 (by omega), eC_e 0 (by omega)]; have h0 : ¬ (0 = j) := by omega
                rcases (show k = 0 ∨ k = 1 ∨ k = 2 by omega) with rfl | rfl | rfl <;> simp [up2, va_up, h0]
      | 8, h => rw [show 8 = 1 + 7 from rfl, eC_e 1 (by omega), eC_e 1 (by omega)]; have h0 : ¬ (1 = j) := by omega
                rcases (show k = 0 ∨ k = 1 ∨ k = 2 by omega) with rfl | rfl | rfl <;> simp [up2, va_up, h0]
      | 9, h => rw [show 9 = 2 + 7 from rfl, eC_e 2 (by omega), eC_e 2 (by omega)]; have h0 : ¬ (2 = j) := by omega
                rcases (show k = 0 ∨ k = 1 ∨ k = 2 by omega) with rfl | rfl | rfl <;> simp [up2, va_up, h0]
      | k + 10, _ => rfl
  rcases (show k = 0 ∨ k = 1 ∨ k = 2 by omega) with rfl | rfl | rfl
  · exact x_pf C hI (Cn := R_E) (T := F_E) (N := 3) i_E t_E t_E_ok n_E (j + 7) (by omega) (ci := 1) (eC_e j hj) rfl 0 (by omega) hlink rfl rfl hn hfit (show 0 < 3 by omega) hdg key
  · exact x_pf C hI (Cn := R_E) (T := F_E) (N := 3) i_E t_E t_E_ok n_E (j + 7) (by omega) (ci := 1) (eC_e j hj) rfl 1 (by omega) hlink rfl rfl hn hfit (show 1 < 3 by omega) hdg key
  · exact x_pf C hI (Cn := R_E) (T := F_E) (N := 3) i_E t_E t_E_ok n_E (j + 7) (by omega) (ci := 1) (eC_e j hj) rfl 2 (by omega) hlink rfl rfl hn hfit (show 2 < 3 by omega) hdg key
variable {y : MethodName} {bytes : ByteArray} {maxL d np : Nat} {ret : Option FieldType} {As st : List Value}
theorem wc_ROi {post : Int32 → Prop} (C : Cc p m c cc nL s args own D cs) (hI : In D ad (5 * nb + 10) s (eC ad cs nb S) H locs) (hM : ROi l D cs ad (5 * nb + 10) (eC ad cs nb S) y bytes maxL ret d (.ref (ad 0) :: As) post) (Y : Yv y bytes maxL ret np) (hl : Cond.methodLink own index y ∈ tbG) (hy : y.cls = R_W) (hR : d + 1 ≤ R.frames ∧ 8 + (maxL + 11) + 27 * d ≤ R.locals) (hn : As.length = np) (hls : ls.size = nL) (hst : st = As.reverse ++ .ref (ad 0) :: rest) (hW : (rest.map fun v => v.category).sum ≤ 8) (hdg : decode cc pc = .ok (.invokevirtual index, 3)) (hf : cells ≤ R.cells ∧ slots ≤ R.slots)
    (kk : ∀ r : Int32, post r → W p l e R s m args below meth c H locs cells slots Q (F0 m (pc + 3) ls (.int r :: rest))) : W p l e R s m args below meth c H locs cells slots Q (F0 m pc ls st) :=
  cv_ROi (r := (R_W, F_W, 13)) (ci := 4) C hI hM Y hl hR (by omega) rfl rfl hy.symm hn hls hst hW hdg hf kk
theorem wc_ROq {post : Option Nat → Prop} (C : Cc p m c cc nL s args own D cs) (hI : In D ad (5 * nb + 10) s (eC ad cs nb S) H locs) (hM : ROq l D cs ad (5 * nb + 10) (eC ad cs nb S) y bytes maxL ret d (.ref (ad 0) :: As) post) (Y : Yv y bytes maxL ret np) (hl : Cond.methodLink own index y ∈ tbG) (hy : y.cls = R_W) (hR : d + 1 ≤ R.frames ∧ 8 + (maxL + 11) + 27 * d ≤ R.locals) (hn : As.length = np) (hls : ls.size = nL) (hst : st = As.reverse ++ .ref (ad 0) :: rest) (hW : (rest.map fun v => v.category).sum ≤ 8) (hdg : decode cc pc = .ok (.invokevirtual index, 3)) (hf : cells ≤ R.cells ∧ slots ≤ R.slots)
    (kk : ∀ r : Option Nat, post r → W p l e R s m args below meth c H locs cells slots Q (F0 m (pc + 3) ls (va_rf r :: rest))) : W p l e R s m args below meth c H locs cells slots Q (F0 m pc ls st) :=
  cv_ROq (r := (R_W, F_W, 13)) (ci := 4) C hI hM Y hl hR (by omega) rfl rfl hy.symm hn hls hst hW hdg hf kk
theorem wc_RWi {post : Int32 → SW → Prop} (C : Cc p m c cc nL s args own D cs) (hI : In D ad (5 * nb + 10) s (eC ad cs nb S) H locs) (hM : RWi l D cs ad (5 * nb + 10) (eC ad cs nb) y bytes maxL ret d (.ref (ad 0) :: As) S post) (Y : Yv y bytes maxL ret np) (hl : Cond.methodLink own index y ∈ tbG) (hy : y.cls = R_W) (hR : d + 1 ≤ R.frames ∧ 8 + (maxL + 11) + 27 * d ≤ R.locals) (hn : As.length = np) (hls : ls.size = nL) (hst : st = As.reverse ++ .ref (ad 0) :: rest) (hW : (rest.map fun v => v.category).sum ≤ 8) (hdg : decode cc pc = .ok (.invokevirtual index, 3)) (hf : cells ≤ R.cells ∧ slots ≤ R.slots)
    (kk : ∀ (r : Int32) (u : SW) (H1 : Heap) (locs1 : List Loc), post r u → In D ad (5 * nb + 10) s (eC ad cs nb u) H1 locs1 → W p l e R s m args below meth c H1 locs1 cells slots Q (F0 m (pc + 3) ls (.int r :: rest))) : W p l e R s m args below meth c H locs cells slots Q (F0 m pc ls st) :=
  cv_RWi (r := (R_W, F_W, 13)) (ci := 4) C hI hM Y hl hR (by omega) rfl rfl hy.symm hn hls hst hW hdg hf kk
theorem wc_RWv {post : SW → Prop} (C : Cc p m c cc nL s args own D cs) (hI : In D ad (5 * nb + 10) s (eC ad cs nb S) H locs) (hM : RWv l D cs ad (5 * nb + 10) (eC ad cs nb) y bytes maxL ret d (.ref (ad 0) :: As) S post) (Y : Yv y bytes maxL ret np) (hl : Cond.methodLink own index y ∈ tbG) (hy : y.cls = R_W) (hR : d + 1 ≤ R.frames ∧ 8 + (maxL + 11) + 27 * d ≤ R.locals) (hn : As.length = np) (hls : ls.size = nL) (hst : st = As.reverse ++ .ref (ad 0) :: rest) (hW : (rest.map fun v => v.category).sum ≤ 8) (hdg : decode cc pc = .ok (.invokevirtual index, 3)) (hf : cells ≤ R.cells ∧ slots ≤ R.slots)
    (kk : ∀ (u : SW) (H1 : Heap) (locs1 : List Loc), post u → In D ad (5 * nb + 10) s (eC ad cs nb u) H1 locs1 → W p l e R s m args below meth c H1 locs1 cells slots Q (F0 m (pc + 3) ls (rest))) : W p l e R s m args below meth c H locs cells slots Q (F0 m pc ls st) :=
  cv_RWv (r := (R_W, F_W, 13)) (ci := 4) C hI hM Y hl hR (by omega) rfl rfl hy.symm hn hls hst hW hdg hf kk
theorem wc_RWq {post : Option Nat → SW → Prop} (C : Cc p m c cc nL s args own D cs) (hI : In D ad (5 * nb + 10) s (eC ad cs nb S) H locs) (hM : RWq l D cs ad (5 * nb + 10) (eC ad cs nb) y bytes maxL ret d (.ref (ad 0) :: As) S post) (Y : Yv y bytes maxL ret np) (hl : Cond.methodLink own index y ∈ tbG) (hy : y.cls = R_W) (hR : d + 1 ≤ R.frames ∧ 8 + (maxL + 11) + 27 * d ≤ R.locals) (hn : As.length = np) (hls : ls.size = nL) (hst : st = As.reverse ++ .ref (ad 0) :: rest) (hW : (rest.map fun v => v.category).sum ≤ 8) (hdg : decode cc pc = .ok (.invokevirtual index, 3)) (hf : cells ≤ R.cells ∧ slots ≤ R.slots)
    (kk : ∀ (r : Option Nat) (u : SW) (H1 : Heap) (locs1 : List Loc), post r u → In D ad (5 * nb + 10) s (eC ad cs nb u) H1 locs1 → W p l e R s m args below meth c H1 locs1 cells slots Q (F0 m (pc + 3) ls (va_rf r :: rest))) : W p l e R s m args below meth c H locs cells slots Q (F0 m pc ls st) :=
  cv_RWq (r := (R_W, F_W, 13)) (ci := 4) C hI hM Y hl hR (by omega) rfl rfl hy.symm hn hls hst hW hdg hf kk
theorem bc_ROi {post : Int32 → Prop} (C : Cc p m c cc nL s args own D cs) (hI : In D ad (5 * nb + 10) s (eC ad cs nb S) H locs) (hM : ROi l D cs ad (5 * nb + 10) (eC ad cs nb S) y bytes maxL ret d (.ref (ad (5 * b + 10)) :: As) post) (Y : Yv y bytes maxL ret np) (hl : Cond.methodLink own index y ∈ tbG) (hy : y.cls = R_B) (hb : b < nb) (hR : d + 1 ≤ R.frames ∧ 8 + (maxL + 11) + 27 * d ≤ R.locals) (hn : As.length = np) (hls : ls.size = nL) (hst : st = As.reverse ++ .ref (ad (5 * b + 10)) :: rest) (hW : (rest.map fun v => v.category).sum ≤ 8) (hdg : decode cc pc = .ok (.invokevirtual index, 3)) (hf : cells ≤ R.cells ∧ slots ≤ R.slots)
    (kk : ∀ r : Int32, post r → W p l e R s m args below meth c H locs cells slots Q (F0 m (pc + 3) ls (.int r :: rest))) : W p l e R s m args below meth c H locs cells slots Q (F0 m pc ls st) :=
  cv_ROi (r := (R_B, F_B, 8)) (ci := 0) C hI hM Y hl hR (by omega) (eC_b b 0 (by omega)) rfl hy.symm hn hls hst hW hdg hf kk
theorem ec_RWv {post : SW → Prop} {j : Nat} (C : Cc p m c cc nL s args own D cs) (hI : In D ad (5 * nb + 10) s (eC ad cs nb S) H locs) (hM : RWv l D cs ad (5 * nb + 10) (eC ad cs nb) y bytes maxL ret d (.ref (ad (j + 7)) :: As) S post) (Y : Yv y bytes maxL ret np) (hl : Cond.methodLink own index y ∈ tbG) (hy : y.cls = R_E) (hj : j < 3) (hR : d + 1 ≤ R.frames ∧ 8 + (maxL + 11) + 27 * d ≤ R.locals) (hn : As.length = np) (hls : ls.size = nL) (hst : st = As.reverse ++ .ref (ad (j + 7)) :: rest) (hW : (rest.map fun v => v.category).sum ≤ 8) (hdg : decode cc pc = .ok (.invokevirtual index, 3)) (hf : cells ≤ R.cells ∧ slots ≤ R.slots)
    (kk : ∀ (u : SW) (H1 : Heap) (locs1 : List Loc), post u → In D ad (5 * nb + 10) s (eC ad cs nb u) H1 locs1 → W p l e R s m args below meth c H1 locs1 cells slots Q (F0 m (pc + 3) ls (rest))) : W p l e R s m args below meth c H locs cells slots Q (F0 m pc ls st) :=
  cv_RWv (r := (R_E, F_E, 3)) (ci := 1) C hI hM Y hl hR (by omega) (eC_e j hj) rfl hy.symm hn hls hst hW hdg hf kk
end BX
end
section
/-! THE CLASS: its small methods -/
def ky (er : Nat → Nat) (b : Nat) : Nat := er b * 16 + b
theorem nle_iff {a b : Nat} (ha : a < 2 ^ 31) (hb : b < 2 ^ 31) : nI a ≤ nI b ↔ a ≤ b := nI_leI ha hb
section WF1
variable {l : Launch} {D : va_G} {cs : Nat → ClassId} {ad : Nat → Nat} {nb sp : Nat} {F : Fl} {S : SW}
theorem c_J_compare (x y : Int32) : MC l D cs y_J_compare b_J_compare 2 (some .int) 0 0 0 [.int x, .int y] (fun _ => True) (vp_Si (fun r => (0 ≤ r ↔ y ≤ x))) (fun _ => False) := by
  refine MC.intro (by decide) (Nat.le_of_ble_eq_true rfl) ?_
  intro p e s m below meth c C hr hlk hnm hH ls hl
  have hx := C.1.1
  have hb := C.1.2.1
  refine lv_iload_n hx hb d_J_compare_0 rfl (lv_at hl 0 rfl) ?_
  refine lv_iload_n hx hb d_J_compare_1 rfl (lv_at hl 1 rfl) ?_
  refine lv_icmp_ge (tgt := 9) hx hb d_J_compare_2 (by decide) (fun k1 => ?_) (fun k1 => ?_)
  · refine lv_iload_n hx hb d_J_compare_9 rfl (lv_at hl 0 rfl) ?_
    refine lv_iload_n hx hb d_J_compare_10 rfl (lv_at hl 1 rfl) ?_
    refine lv_icmp_ne (tgt := 18) hx hb d_J_compare_11 (by decide) (fun k2 => ?_) (fun k2 => ?_)
    · refine lv_iconst (v := 1) hx hb d_J_compare_18 (by decide) ?_
      exact rt_ROi C hr hlk ⟨fun _ => k1, fun _ => by decide⟩ d_J_compare_19
    · refine lv_iconst (v := 0) hx hb d_J_compare_14 (by decide) ?_
      refine lv_goto (tgt := 19) hx hb d_J_compare_15 (by decide) ?_
      exact rt_ROi C hr hlk ⟨fun _ => k1, fun _ => by decide⟩ d_J_compare_19
  · refine lv_iconst (v := -1) hx hb d_J_compare_5 (by decide) ?_
    refine lv_goto (tgt := 19) hx hb d_J_compare_6 (by decide) ?_
    exact rt_ROi C hr hlk ⟨fun h => absurd h (by decide), fun h => absurd h k1⟩ d_J_compare_19
theorem c_B_cmp {er : Nat → Nat} (hG : Geo ad (5 * nb + 10)) (he : ∀ b, b < nb → S.2.2.1 1 b = nI (er b) ∧ er b < 100000) (hnb : nb ≤ 12) {a b : Nat} (ha : a < nb) (hb0 : b < nb) : ROi l D cs ad (5 * nb + 10) (eC ad cs nb S) y_B_cmp b_B_cmp 2 (some .int) 1 [.ref (ad (5 * a + 10)), .ref (ad (5 * b + 10))] (fun r => (0 ≤ r ↔ ky er b ≤ ky er a)) := by
  refine MC.intro (by decide) (Nat.le_of_ble_eq_true rfl) ?_
  intro p e s m below meth c C hr hlk hnm hH ls hl
  have hI : In D ad (5 * nb + 10) s (eC ad cs nb S) s.heap [] := ⟨hG, hH, va_S.rf⟩
  have hx := C.1.1
  have hb := C.1.2.1
  have hea := he a ha
  have heb := he b hb0
  refine lv_aload_n hx hb d_B_cmp_0 rfl (lv_at hl 0 rfl) ?_
  refine b_geti C hI 1 (by decide) (by omega) k_fl_B_30 (hea.1) d_B_cmp_1 ?_
  refine lv_aload_n hx hb d_B_cmp_4 rfl (lv_at hl 1 rfl) ?_
  refine b_geti C hI 1 (by decide) (by omega) k_fl_B_30 (heb.1) d_B_cmp_5 ?_
  refine bn_eq (tgt := 25) C (by omega) (by omega) d_B_cmp_8 (by decide) (fun k1 => ?_) (fun k1 => ?_)
  · refine lv_aload_n hx hb d_B_cmp_25 rfl (lv_at hl 0 rfl) ?_
    refine b_num C hI (by omega) k_fl_B_26 d_B_cmp_26 ?_
    refine lv_aload_n hx hb d_B_cmp_29 rfl (lv_at hl 1 rfl) ?_
    refine b_num C hI (by omega) k_fl_B_26 d_B_cmp_30 ?_
    refine cs_ROi C (c_J_compare (nI a) (nI b)) yc_J_compare k_st_J_compare k_ml_B_33 (by decide) trivial rfl hl.1 rfl (Nat.le_of_ble_eq_true rfl) d_B_cmp_33 ⟨Nat.le_refl _, Nat.le_refl _⟩ (fun r hp => ?_)
    exact rt_ROi C hr hlk (by rw [hp, nle_iff (by omega) (by omega)]; unfold ky; omega) d_B_cmp_36
  · refine lv_aload_n hx hb d_B_cmp_11 rfl (lv_at hl 0 rfl) ?_
    refine b_geti C hI 1 (by decide) (by omega) k_fl_B_30 (hea.1) d_B_cmp_12 ?_
    refine lv_aload_n hx hb d_B_cmp_15 rfl (lv_at hl 1 rfl) ?_
    refine b_geti C hI 1 (by decide) (by omega) k_fl_B_30 (heb.1) d_B_cmp_16 ?_
    refine cs_ROi C (c_J_compare (nI (er a)) (nI (er b))) yc_J_compare k_st_J_compare k_ml_B_33 (by decide) trivial rfl hl.1 rfl (Nat.le_of_ble_eq_true rfl) d_B_cmp_19 ⟨Nat.le_refl _, Nat.le_refl _⟩ (fun r hp => ?_)
    refine lv_goto (tgt := 36) hx hb d_B_cmp_22 (by decide) ?_
    exact rt_ROi C hr hlk (by rw [hp, nle_iff (by omega) (by omega)]; unfold ky; omega) d_B_cmp_36
theorem c_B_isFull (hG : Geo ad (5 * nb + 10)) {b u : Nat} (hb0 : b < nb) (hu : S.2.2.1 2 b = nI u) (hu4 : u ≤ 4) : ROi l D cs ad (5 * nb + 10) (eC ad cs nb S) y_B_isFull b_B_isFull 1 (some .boolean) 0 [.ref (ad (5 * b + 10))] (fun r => r = bI (u == 4)) := by
  refine MC.intro (by decide) (Nat.le_of_ble_eq_true rfl) ?_
  intro p e s m below meth c C hr hlk hnm hH ls hl
  have hI : In D ad (5 * nb + 10) s (eC ad cs nb S) s.heap [] := ⟨hG, hH, va_S.rf⟩
  have hx := C.1.1
  have hb := C.1.2.1
  refine lv_aload_n hx hb d_B_isFull_0 rfl (lv_at hl 0 rfl) ?_
  refine b_geti C hI 2 (by decide) (by omega) k_fl_B_39 (hu) d_B_isFull_1 ?_
  refine lv_iconst (v := nI 4) hx hb d_B_isFull_4 (by decide) ?_
  refine bn_ne (tgt := 12) C (by omega) (by omega) d_B_isFull_5 (by decide) (fun k1 => ?_) (fun k1 => ?_)
  · refine lv_iconst (v := 0) hx hb d_B_isFull_12 (by decide) ?_
    exact rt_ROz C hr hlk rfl (by rw [show (u == 4) = false by simp [k1]]; rfl) d_B_isFull_13
  · refine lv_iconst (v := 1) hx hb d_B_isFull_8 (by decide) ?_
    refine lv_goto (tgt := 13) hx hb d_B_isFull_9 (by decide) ?_
    exact rt_ROz C hr hlk rfl (by rw [k1]; rfl) d_B_isFull_13
theorem c_B_place (hG : Geo ad (5 * nb + 10)) {b q : Nat} (hb0 : b < nb) : ROi l D cs ad (5 * nb + 10) (eC ad cs nb S) y_B_place b_B_place 2 (some .int) 0 [.ref (ad (5 * b + 10)), .int (nI q)] (fun r => r = nI (4 * b + q)) := by
  refine MC.intro (by decide) (Nat.le_of_ble_eq_true rfl) ?_
  intro p e s m below meth c C hr hlk hnm hH ls hl
  have hI : In D ad (5 * nb + 10) s (eC ad cs nb S) s.heap [] := ⟨hG, hH, va_S.rf⟩
  have hx := C.1.1
  have hb := C.1.2.1
  refine lv_iconst (v := nI 4) hx hb d_B_place_0 (by decide) ?_
  refine lv_aload_n hx hb d_B_place_1 rfl (lv_at hl 0 rfl) ?_
  refine b_num C hI (by omega) k_fl_B_26 d_B_place_2 ?_
  refine an_mul C d_B_place_5 ?_
  refine lv_iload_n hx hb d_B_place_6 rfl (lv_at hl 1 rfl) ?_
  refine an_add C d_B_place_7 ?_
  exact rt_ROi C hr hlk rfl d_B_place_8
theorem c_V_prefers {er : Nat → Nat} (hG : Geo ad (5 * nb + 10)) (he : ∀ b, b < nb → S.2.2.1 1 b = nI (er b) ∧ er b < 100000) (hnb : nb ≤ 12) {a b : Nat} (ha : a < nb) (hb0 : b < nb) : ROi l D cs ad (5 * nb + 10) (eC ad cs nb S) y_V_prefers b_V_prefers 3 (some .boolean) 2 [.ref (ad 6), .ref (ad (5 * a + 10)), .ref (ad (5 * b + 10))] (fun r => r = bI (decide (ky er a < ky er b))) := by
  refine MC.intro (by decide) (Nat.le_of_ble_eq_true rfl) ?_
  intro p e s m below meth c C hr hlk hnm hH ls hl
  have hI : In D ad (5 * nb + 10) s (eC ad cs nb S) s.heap [] := ⟨hG, hH, va_S.rf⟩
  have hx := C.1.1
  have hb := C.1.2.1
  refine lv_aload_n hx hb d_V_prefers_0 rfl (lv_at hl 1 rfl) ?_
  refine lv_aload_n hx hb d_V_prefers_1 rfl (lv_at hl 2 rfl) ?_
  refine bc_ROi C hI (c_B_cmp hG he hnb ha hb0) yv_B_cmp k_ml_V_7 rfl (by omega) (by decide) rfl hl.1 rfl (Nat.le_of_ble_eq_true rfl) d_V_prefers_2 ⟨Nat.le_refl _, Nat.le_refl _⟩ (fun r hp => ?_)
  refine lv_if_ge (tgt := 12) hx hb d_V_prefers_5 (by decide) (fun k1 => ?_) (fun k1 => ?_)
  · refine lv_iconst (v := 0) hx hb d_V_prefers_12 (by decide) ?_
    exact rt_ROz C hr hlk rfl (by rw [decide_eq_false (by have := hp.mp k1; omega)]; rfl) d_V_prefers_13
  · refine lv_iconst (v := 1) hx hb d_V_prefers_8 (by decide) ?_
    refine lv_goto (tgt := 13) hx hb d_V_prefers_9 (by decide) ?_
    exact rt_ROz C hr hlk rfl (by rw [decide_eq_true (by rcases Nat.lt_or_ge (ky er a) (ky er b) with z | z; exact z; exact absurd (hp.mpr z) k1)]; rfl) d_V_prefers_13
theorem c_G_prefers {er vi : Nat → Nat} (hG : Geo ad (5 * nb + 10)) (he : ∀ b, b < nb → S.2.2.1 1 b = nI (er b) ∧ er b < 100000) (hv : ∀ b, b < nb → S.2.2.1 3 b = nI (vi b) ∧ vi b ≤ 4) (hnb : nb ≤ 12) {a b : Nat} (ha : a < nb) (hb0 : b < nb) : ROi l D cs ad (5 * nb + 10) (eC ad cs nb S) y_G_prefers b_G_prefers 3 (some .boolean) 2 [.ref (ad 5), .ref (ad (5 * a + 10)), .ref (ad (5 * b + 10))] (fun r => r = bI (decide (vi a < vi b ∨ (vi a = vi b ∧ ky er a < ky er b)))) := by
  refine MC.intro (by decide) (Nat.le_of_ble_eq_true rfl) ?_
  intro p e s m below meth c C hr hlk hnm hH ls hl
  have hI : In D ad (5 * nb + 10) s (eC ad cs nb S) s.heap [] := ⟨hG, hH, va_S.rf⟩
  have hx := C.1.1
  have hb := C.1.2.1
  have hva := hv a ha
  have hvb := hv b hb0
  refine lv_aload_n hx hb d_G_prefers_0 rfl (lv_at hl 1 rfl) ?_
  refine bN_geti C hI 3 (by decide) (by omega) k_fn_G_7 (hva.1) d_G_prefers_1 ?_
  refine lv_aload_n hx hb d_G_prefers_4 rfl (lv_at hl 2 rfl) ?_
  refine bN_geti C hI 3 (by decide) (by omega) k_fn_G_7 (hvb.1) d_G_prefers_5 ?_
  refine bn_eq (tgt := 30) C (by omega) (by omega) d_G_prefers_8 (by decide) (fun k1 => ?_) (fun k1 => ?_)
  · refine lv_aload_n hx hb d_G_prefers_30 rfl (lv_at hl 1 rfl) ?_
    refine lv_aload_n hx hb d_G_prefers_31 rfl (lv_at hl 2 rfl) ?_
    refine bc_ROi C hI (c_B_cmp hG he hnb ha hb0) yv_B_cmp k_ml_G_13 rfl (by omega) (by decide) rfl hl.1 rfl (Nat.le_of_ble_eq_true rfl) d_G_prefers_32 ⟨Nat.le_refl _, Nat.le_refl _⟩ (fun r hp => ?_)
    refine lv_if_ge (tgt := 42) hx hb d_G_prefers_35 (by decide) (fun k2 => ?_) (fun k2 => ?_)
    · refine lv_iconst (v := 0) hx hb d_G_prefers_42 (by decide) ?_
      exact rt_ROz C hr hlk rfl (by rw [decide_eq_false (by have := hp.mp k2; omega)]; rfl) d_G_prefers_43
    · refine lv_iconst (v := 1) hx hb d_G_prefers_38 (by decide) ?_
      refine lv_goto (tgt := 43) hx hb d_G_prefers_39 (by decide) ?_
      exact rt_ROz C hr hlk rfl (by rw [decide_eq_true (Or.inr ⟨k1, by rcases Nat.lt_or_ge (ky er a) (ky er b) with z | z; exact z; exact absurd (hp.mpr z) k2⟩)]; rfl) d_G_prefers_43
  · refine lv_aload_n hx hb d_G_prefers_11 rfl (lv_at hl 1 rfl) ?_
    refine bN_geti C hI 3 (by decide) (by omega) k_fn_G_7 (hva.1) d_G_prefers_12 ?_
    refine lv_aload_n hx hb d_G_prefers_15 rfl (lv_at hl 2 rfl) ?_
    refine bN_geti C hI 3 (by decide) (by omega) k_fn_G_7 (hvb.1) d_G_prefers_16 ?_
    refine bn_ge (tgt := 26) C (by omega) (by omega) d_G_prefers_19 (by decide) (fun k2 => ?_) (fun k2 => ?_)
    · refine lv_iconst (v := 0) hx hb d_G_prefers_26 (by decide) ?_
      refine lv_goto (tgt := 43) hx hb d_G_prefers_27 (by decide) ?_
      exact rt_ROz C hr hlk rfl (by rw [decide_eq_false (by omega)]; rfl) d_G_prefers_43
    · refine lv_iconst (v := 1) hx hb d_G_prefers_22 (by decide) ?_
      refine lv_goto (tgt := 43) hx hb d_G_prefers_23 (by decide) ?_
      exact rt_ROz C hr hlk rfl (by rw [decide_eq_true (by omega)]; rfl) d_G_prefers_43
theorem c_W_operate (hG : Geo ad (5 * nb + 10)) (h4 : S.1 4 = nI (fOs F)) (h5 : S.1 5 = nI (fFu F)) (hfu : fFu F ≤ 1000) : RWi l D cs ad (5 * nb + 10) (eC ad cs nb) y_W_operate b_W_operate 1 (some .boolean) 0 [.ref (ad 0)] S (fun r u => r = bI (sOper F).1 ∧ ∃ WI, u = (WI, S.2) ∧ WI 4 = nI (fOs (sOper F).2) ∧ WI 5 = nI (fFu (sOper F).2) ∧ ∀ k, k ≠ 4 → k ≠ 5 → WI k = S.1 k) := by
  refine MC.intro (by decide) (Nat.le_of_ble_eq_true rfl) ?_
  intro p e s m below meth c C hr hlk hnm hH ls hl
  have hI : In D ad (5 * nb + 10) s (eC ad cs nb S) s.heap [] := ⟨hG, hH, va_S.rf⟩
  have hx := C.1.1
  have hb := C.1.2.1
  refine W_atH (pc2 := 23) (st2 := []) (fun H locs ls => ¬ fFu F = 1 ∧ lv_has ls 1 [(0, .ref (ad 0))] ∧ ∃ WI, WI 5 = nI (fFu F - 1) ∧ (∀ k, k ≠ 5 → WI k = S.1 k) ∧ In D ad (5 * nb + 10) s (eC ad cs nb (WI, S.2)) H locs) ?_ (fun J => ?_)
  · intro H locs ls ⟨hn, hl, WI, hw5, hwk, hI⟩
    refine lv_aload_n hx hb d_W_operate_23 rfl (lv_at hl 0 rfl) ?_
    refine lv_dup hx hb d_W_operate_24 rfl ?_
    refine w_geti C hI 4 (by decide) k_fl_W_59 rfl rfl (show WI 4 = nI (fOs F) by rw [hwk 4 (by decide)]; exact h4) d_W_operate_25 ?_
    refine lv_iconst (v := nI 1) hx hb d_W_operate_28 (by decide) ?_
    refine an_add C d_W_operate_29 ?_
    refine w_puti C hI 4 (by omega) k_fl_W_59 rfl rfl rfl rfl d_W_operate_30 (fun H locs WJ hWJ hI => ?_)
    refine lv_iconst (v := 1) hx hb d_W_operate_33 (by decide) ?_
    have hres : sOper F = (true, fOper F) := by rw [sOper, if_neg hn]
    exact rt_RWz C hI hr hlk rfl ⟨by rw [hres]; rfl, WJ, rfl, by rw [hres, hWJ]; rfl, by rw [hres, hWJ]; exact hw5, fun k hk4 hk5 => by rw [hWJ]; show va_up WI 4 _ k = _; rw [va_up_ne _ _ hk4]; exact hwk k hk5⟩ d_W_operate_34
  · refine lv_aload_n hx hb d_W_operate_0 rfl (lv_at hl 0 rfl) ?_
    refine w_geti C hI 5 (by decide) k_fl_W_56 rfl rfl (h5) d_W_operate_1 ?_
    refine bz_le (tgt := 23) C (by omega) d_W_operate_4 (by decide) (fun k1 => ?_) (fun k1 => ?_)
    · exact J _ _ _ ⟨by omega, hl, S.1, by rw [h5, k1], fun _ _ => rfl, hI⟩
    · refine lv_aload_n hx hb d_W_operate_7 rfl (lv_at hl 0 rfl) ?_
      refine lv_dup hx hb d_W_operate_8 rfl ?_
      refine w_geti C hI 5 (by decide) k_fl_W_56 rfl rfl (h5) d_W_operate_9 ?_
      refine lv_iconst (v := nI 1) hx hb d_W_operate_12 (by decide) ?_
      refine an_sub C (by omega) d_W_operate_13 ?_
      refine lv_dup_x1 hx hb d_W_operate_14 rfl rfl ?_
      refine w_puti C hI 5 (by omega) k_fl_W_56 rfl rfl rfl rfl d_W_operate_15 (fun H locs WI hWI hI => ?_)
      refine bz_ne (tgt := 23) C (by omega) d_W_operate_18 (by decide) (fun k2 => ?_) (fun k2 => ?_)
      · exact J _ _ _ ⟨by omega, hl, WI, by rw [hWI]; rfl, fun k hk => by rw [hWI]; show va_up S.1 5 _ k = _; rw [va_up_ne _ _ hk], hI⟩
      · have h1 : fFu F = 1 := by omega
        have hres : sOper F = (false, fBlow F) := by rw [sOper, if_pos h1]
        refine lv_iconst (v := 0) hx hb d_W_operate_21 (by decide) ?_
        exact rt_RWz C hI hr hlk rfl ⟨by rw [hres]; rfl, WI, rfl, by rw [hres, hWI]; exact h4, by rw [hres, hWI, h1]; rfl, fun k hk4 hk5 => by rw [hWI]; show va_up S.1 5 _ k = _; rw [va_up_ne _ _ hk5]⟩ d_W_operate_22
theorem c_W_isSector (hG : Geo ad (5 * nb + 10)) (hnb : nb ≤ 12) (x : Int32) : ROi l D cs ad (5 * nb + 10) (eC ad cs nb S) y_W_isSector b_W_isSector 2 (some .boolean) 0 [.ref (ad 0), .int x] (fun r => r = bI (inR (4 * (nb - 3)) x).isSome) := by
  refine MC.intro (by decide) (Nat.le_of_ble_eq_true rfl) ?_
  intro p e s m below meth c C hr hlk hnm hH ls hl
  have hI : In D ad (5 * nb + 10) s (eC ad cs nb S) s.heap [] := ⟨hG, hH, va_S.rf⟩
  have hx := C.1.1
  have hb := C.1.2.1
  refine lv_iload_n hx hb d_W_isSector_0 rfl (lv_at hl 1 rfl) ?_
  refine lv_if_lt (tgt := 17) hx hb d_W_isSector_1 (by decide) (fun k1 => ?_) (fun k1 => ?_)
  · refine lv_iconst (v := 0) hx hb d_W_isSector_17 (by decide) ?_
    exact rt_ROz C hr hlk rfl (by rw [inR_neg k1]; rfl) d_W_isSector_18
  · refine lv_iload_n hx hb d_W_isSector_4 rfl (lv_at hl 1 rfl) ?_
    refine lv_aload_n hx hb d_W_isSector_5 rfl (lv_at hl 0 rfl) ?_
    refine w_getr C hI 2 (by decide) k_fl_W_42 rfl 2 rfl d_W_isSector_6 ?_
    refine w_plen C hI  d_W_isSector_9 ?_
    refine lv_icmp_ge (tgt := 17) hx hb d_W_isSector_10 (by decide) (fun k2 => ?_) (fun k2 => ?_)
    · refine lv_iconst (v := 0) hx hb d_W_isSector_17 (by decide) ?_
      exact rt_ROz C hr hlk rfl (by rw [inR_big (by omega) k2]; rfl) d_W_isSector_18
    · obtain ⟨j, hj, rfl, e1⟩ := inR_ok (by omega) k1 k2
      refine lv_iconst (v := 1) hx hb d_W_isSector_13 (by decide) ?_
      refine lv_goto (tgt := 18) hx hb d_W_isSector_14 (by decide) ?_
      exact rt_ROz C hr hlk rfl (by rw [e1]; rfl) d_W_isSector_18
theorem c_W_isBlock (hG : Geo ad (5 * nb + 10)) (hnb : nb ≤ 12) (x : Int32) : ROi l D cs ad (5 * nb + 10) (eC ad cs nb S) y_W_isBlock b_W_isBlock 2 (some .boolean) 0 [.ref (ad 0), .int x] (fun r => r = bI (inR nb x).isSome) := by
  refine MC.intro (by decide) (Nat.le_of_ble_eq_true rfl) ?_
  intro p e s m below meth c C hr hlk hnm hH ls hl
  have hI : In D ad (5 * nb + 10) s (eC ad cs nb S) s.heap [] := ⟨hG, hH, va_S.rf⟩
  have hx := C.1.1
  have hb := C.1.2.1
  refine lv_iload_n hx hb d_W_isBlock_0 rfl (lv_at hl 1 rfl) ?_
  refine lv_if_lt (tgt := 17) hx hb d_W_isBlock_1 (by decide) (fun k1 => ?_) (fun k1 => ?_)
  · refine lv_iconst (v := 0) hx hb d_W_isBlock_17 (by decide) ?_
    exact rt_ROz C hr hlk rfl (by rw [inR_neg k1]; rfl) d_W_isBlock_18
  · refine lv_iload_n hx hb d_W_isBlock_4 rfl (lv_at hl 1 rfl) ?_
    refine lv_aload_n hx hb d_W_isBlock_5 rfl (lv_at hl 0 rfl) ?_
    refine w_getr C hI 1 (by decide) k_fl_W_35 rfl 1 rfl d_W_isBlock_6 ?_
    refine w_blen C hI  d_W_isBlock_9 ?_
    refine lv_icmp_ge (tgt := 17) hx hb d_W_isBlock_10 (by decide) (fun k2 => ?_) (fun k2 => ?_)
    · refine lv_iconst (v := 0) hx hb d_W_isBlock_17 (by decide) ?_
      exact rt_ROz C hr hlk rfl (by rw [inR_big (by omega) k2]; rfl) d_W_isBlock_18
    · obtain ⟨j, hj, rfl, e1⟩ := inR_ok (by omega) k1 k2
      refine lv_iconst (v := 1) hx hb d_W_isBlock_13 (by decide) ?_
      refine lv_goto (tgt := 18) hx hb d_W_isBlock_14 (by decide) ?_
      exact rt_ROz C hr hlk rfl (by rw [e1]; rfl) d_W_isBlock_18
theorem c_W_serialAt (hG : Geo ad (5 * nb + 10)) (hnb : nb ≤ 12) {q : Nat} {v : Int32} (hq : q < 4 * nb) (hv : S.2.2.2.1 2 (q / 4) (q % 4) = v) : ROi l D cs ad (5 * nb + 10) (eC ad cs nb S) y_W_serialAt b_W_serialAt 2 (some .int) 0 [.ref (ad 0), .int (nI q)] (fun r => r = v) := by
  refine MC.intro (by decide) (Nat.le_of_ble_eq_true rfl) ?_
  intro p e s m below meth c C hr hlk hnm hH ls hl
  have hI : In D ad (5 * nb + 10) s (eC ad cs nb S) s.heap [] := ⟨hG, hH, va_S.rf⟩
  have hx := C.1.1
  have hb := C.1.2.1
  refine lv_aload_n hx hb d_W_serialAt_0 rfl (lv_at hl 0 rfl) ?_
  refine w_getr C hI 1 (by decide) k_fl_W_35 rfl 1 rfl d_W_serialAt_1 ?_
  refine lv_iload_n hx hb d_W_serialAt_4 rfl (lv_at hl 1 rfl) ?_
  refine lv_iconst (v := nI 4) hx hb d_W_serialAt_5 (by decide) ?_
  refine an_div C (by omega) (by omega) (by omega) d_W_serialAt_6 ?_
  refine w_blk C hI (by omega) (by omega) d_W_serialAt_7 ?_
  refine bN_getr C hI 2 (by decide) (by omega) k_fn_W_87 d_W_serialAt_8 ?_
  refine lv_iload_n hx hb d_W_serialAt_11 rfl (lv_at hl 1 rfl) ?_
  refine lv_iconst (v := nI 4) hx hb d_W_serialAt_12 (by decide) ?_
  refine an_rem C (by omega) (by omega) (by omega) d_W_serialAt_13 ?_
  refine br_ald C hI (by omega) (by omega) hv d_W_serialAt_14 ?_
  exact rt_ROi C hr hlk rfl d_W_serialAt_15
theorem c_E_set (hG : Geo ad (5 * nb + 10)) {j : Nat} (hj : j < 3) (x v : Int32) (t : Bool) : RWv l D cs ad (5 * nb + 10) (eC ad cs nb) y_E_set b_E_set 4 none 0 [.ref (ad (j + 7)), .int x, .int v, .int (bI t)] S (fun u => ∃ EI, u = (S.1, S.2.1, S.2.2.1, S.2.2.2.1, S.2.2.2.2.1, S.2.2.2.2.2.1, S.2.2.2.2.2.2.1, EI) ∧ (∀ i, i ≠ j → ∀ k, EI k i = S.2.2.2.2.2.2.2 k i) ∧ EI 0 j = x ∧ EI 1 j = v ∧ EI 2 j = bI t) := by
  refine MC.intro (by decide) (Nat.le_of_ble_eq_true rfl) ?_
  intro p e s m below meth c C hr hlk hnm hH ls hl
  have hI : In D ad (5 * nb + 10) s (eC ad cs nb S) s.heap [] := ⟨hG, hH, va_S.rf⟩
  have hx := C.1.1
  have hb := C.1.2.1
  refine lv_aload_n hx hb d_E_set_0 rfl (lv_at hl 0 rfl) ?_
  refine lv_iload_n hx hb d_E_set_1 rfl (lv_at hl 1 rfl) ?_
  refine e_puti C hI 0 (by omega) (by omega) k_fl_E_7 rfl rfl d_E_set_2 (fun H locs EI hEI hI => ?_)
  refine lv_aload_n hx hb d_E_set_5 rfl (lv_at hl 0 rfl) ?_
  refine lv_iload_n hx hb d_E_set_6 rfl (lv_at hl 2 rfl) ?_
  refine e_puti C hI 1 (by omega) (by omega) k_fl_E_13 rfl rfl d_E_set_7 (fun H locs EJ hEJ hI => ?_)
  refine lv_aload_n hx hb d_E_set_10 rfl (lv_at hl 0 rfl) ?_
  refine lv_iload_n hx hb d_E_set_11 rfl (lv_at hl 3 rfl) ?_
  refine e_puti C hI 2 (by omega) (by omega) k_fl_E_16 (bI_nar t) (bI_fit t) d_E_set_12 (fun H locs EK hEK hI => ?_)
  refine rt_RWv C hI hr hlk ⟨EK, rfl, fun i hi k => ?_, ?_, ?_, ?_⟩ d_E_set_15
  · rw [hEK, hEJ, hEI]
    have key : ∀ (f : Nat → Nat → Int32) (a : Nat) (z : Int32), up2 f a j z k i = f k i := by
      intro f a z
      by_cases h : k = a
      · subst h; rw [up2, va_up_self, va_up_ne _ _ hi]
      · rw [up2, va_up_ne _ _ h]
    show up2 (up2 (up2 S.2.2.2.2.2.2.2 0 j x) 1 j v) 2 j (bI t) k i = _
    rw [key, key, key]
  · rw [hEK, hEJ, hEI]; simp [up2, va_up]
  · rw [hEK, hEJ, hEI]; simp [up2, va_up]
  · rw [hEK, hEJ, hEI]; simp [up2, va_up]
end WF1
end
section
/-! THE CLASS: its heap of free blocks -/
theorem pig : ∀ (N n : Nat) (f : Nat → Nat), (∀ i, i < n → f i < N) → (∀ i j, i < n → j < n → f i = f j → i = j) → n ≤ N
  | 0, n, f, h, _ => by
    rcases Nat.eq_zero_or_pos n with z | z
    · omega
    · exact absurd (h 0 z) (by omega)
  | N + 1, n, f, h, hi => by
    by_cases hx : ∃ i, i < n ∧ f i = N
    · obtain ⟨i, hi1, hi2⟩ := hx
      have := pig N (n - 1) (fun j => if j = i then f (n - 1) else f j) (fun j hj => by
        have h1 := h j (by omega)
        have h2 := h (n - 1) (by omega)
        show (if j = i then f (n - 1) else f j) < N
        split
        · have : f (n - 1) ≠ N := fun z => by have := hi (n - 1) i (by omega) hi1 (by omega); omega
          omega
        · have : f j ≠ N := fun z => by have := hi j i (by omega) hi1 (by omega); omega
          omega) (fun a b ha hb e => by
        have e' : (if a = i then f (n - 1) else f a) = (if b = i then f (n - 1) else f b) := e
        split at e' <;> split at e'
        · omega
        · have := hi (n - 1) b (by omega) (by omega) e'; omega
        · have := hi a (n - 1) (by omega) (by omega) e'; omega
        · exact hi a b (by omega) (by omega) e')
      omega
    · have := pig N n f (fun i hin => by
        have := h i hin
        have h2 : f i ≠ N := fun z => hx ⟨i, hin, z⟩
        omega) hi
      omega
def Hq (ad : Nat → Nat) (nb : Nat) (er : Nat → Nat) (hs : Nat) (hp : Nat → Nat) (HP : Nat → Option Nat) : Prop := hs ≤ nb ∧ (∀ i, i < hs → hp i < nb ∧ HP i = some (ad (5 * hp i + 10))) ∧ (∀ i j, i < hs → j < hs → hp i = hp j → i = j) ∧ (∀ i, 0 < i → i < hs → ky er (hp ((i - 1) / 2)) ≤ ky er (hp i))
/-- the heap holds just the blocks with P, ordered by their keys -/
def HpOK (ad : Nat → Nat) (nb : Nat) (er : Nat → Nat) (S : SW) (P : Nat → Prop) : Prop := ∃ (hs : Nat) (hp : Nat → Nat), S.1 8 = nI hs ∧ Hq ad nb er hs hp S.2.2.2.2.2.1 ∧ ∀ b, P b ↔ ∃ i, i < hs ∧ hp i = b
/-- going up: a heap on the places up to n but for place k -/
def Su (er : Nat → Nat) (n k : Nat) (g : Nat → Nat) : Prop := (∀ i, 0 < i → i ≤ n → i ≠ k → ky er (g ((i - 1) / 2)) ≤ ky er (g i)) ∧ (∀ i, 0 < i → i ≤ n → (i - 1) / 2 = k → 0 < k → ky er (g ((k - 1) / 2)) ≤ ky er (g i))
def sw (g : Nat → Nat) (a b : Nat) : Nat → Nat := fun i => if i = a then g b else if i = b then g a else g i
theorem sw_a (g : Nat → Nat) (a b : Nat) : sw g a b a = g b := by simp [sw]
theorem sw_b (g : Nat → Nat) (a b : Nat) : sw g a b b = g a := by unfold sw; split <;> simp_all
theorem sw_o (g : Nat → Nat) {a b i : Nat} (h1 : i ≠ a) (h2 : i ≠ b) : sw g a b i = g i := by simp [sw, h1, h2]
theorem sw_inj {g : Nat → Nat} {n a b : Nat} (ha : a ≤ n) (hb : b ≤ n) (h : ∀ i j, i ≤ n → j ≤ n → g i = g j → i = j) : ∀ i j, i ≤ n → j ≤ n → sw g a b i = sw g a b j → i = j := by
  intro i j hi hj e
  unfold sw at e
  have t1 := h i j hi hj
  have t2 := h a b ha hb
  have t3 := h i a hi ha
  have t4 := h i b hi hb
  have t5 := h a j ha hj
  have t6 := h b j hb hj
  have t7 := h b a hb ha
  split at e <;> split at e <;> (try split at e) <;> (try split at e) <;> first | omega | (have := t1 e; omega) | (have := t2 e; omega) | (have := t3 e; omega) | (have := t4 e; omega) | (have := t5 e; omega) | (have := t6 e; omega) | (have := t7 e; omega)
theorem sw_set {g : Nat → Nat} {n a b : Nat} (ha : a ≤ n) (hb : b ≤ n) (c : Nat) : (∃ i, i ≤ n ∧ sw g a b i = c) ↔ ∃ i, i ≤ n ∧ g i = c := by
  constructor
  · rintro ⟨i, hi, e⟩
    by_cases h1 : i = a
    · subst h1; rw [sw_a] at e; exact ⟨b, hb, e⟩
    · by_cases h2 : i = b
      · subst h2; rw [sw_b] at e; exact ⟨a, ha, e⟩
      · rw [sw_o g h1 h2] at e; exact ⟨i, hi, e⟩
  · rintro ⟨i, hi, e⟩
    by_cases h1 : i = a
    · subst h1; exact ⟨b, hb, by rw [sw_b]; exact e⟩
    · by_cases h2 : i = b
      · subst h2; exact ⟨a, ha, by rw [sw_a]; exact e⟩
      · exact ⟨i, hi, by rw [sw_o g h1 h2]; exact e⟩
theorem Su.up {er : Nat → Nat} {n k : Nat} {g : Nat → Nat} (h : Su er n k g) (hk : 0 < k) (hkn : k ≤ n) (hlt : ky er (g k) < ky er (g ((k - 1) / 2))) : Su er n ((k - 1) / 2) (sw g k ((k - 1) / 2)) := by
  have hpk : (k - 1) / 2 < k := by omega
  refine ⟨fun i h0 hi hne => ?_, fun i h0 hi he hk0 => ?_⟩
  · by_cases h1 : i = k
    · subst h1
      rw [sw_b, sw_a]; omega
    · rw [sw_o g h1 hne]
      by_cases h2 : (i - 1) / 2 = k
      · rw [h2, sw_a]
        exact h.2 i h0 hi h2 hk
      · by_cases h3 : (i - 1) / 2 = (k - 1) / 2
        · rw [h3, sw_b]
          have := h.1 i h0 hi h1
          rw [h3] at this; omega
        · rw [sw_o g h2 h3]
          exact h.1 i h0 hi h1
  · have h4 : ((k - 1) / 2 - 1) / 2 ≠ k := by omega
    have h5 : ((k - 1) / 2 - 1) / 2 ≠ (k - 1) / 2 := by omega
    rw [sw_o g h4 h5]
    have h6 := h.1 ((k - 1) / 2) hk0 (by omega) (by omega)
    by_cases h1 : i = k
    · subst h1; rw [sw_a]; exact h6
    · by_cases h2 : i = (k - 1) / 2
      · omega
      · rw [sw_o g h1 h2]
        have := h.1 i h0 hi h1
        rw [he] at this; omega
/-- going down: a heap on the places below n but for the children of place k -/
def Sd (er : Nat → Nat) (n k : Nat) (g : Nat → Nat) : Prop := (∀ i, 0 < i → i < n → (i - 1) / 2 ≠ k → ky er (g ((i - 1) / 2)) ≤ ky er (g i)) ∧ (∀ i, 0 < i → i < n → (i - 1) / 2 = k → 0 < k → ky er (g ((k - 1) / 2)) ≤ ky er (g i))
theorem Sd.down {er : Nat → Nat} {n k c : Nat} {g : Nat → Nat} (h : Sd er n k g) (hc : c = 2 * k + 1 ∨ c = 2 * k + 2) (hcn : c < n) (hmin : ∀ i, 0 < i → i < n → (i - 1) / 2 = k → ky er (g c) ≤ ky er (g i)) (hle : ky er (g c) ≤ ky er (g k)) : Sd er n c (sw g k c) := by
  have hpc : (c - 1) / 2 = k := by omega
  have hck : k < c := by omega
  refine ⟨fun i h0 hi hne => ?_, fun i h0 hi he hk0 => ?_⟩
  · by_cases h1 : (i - 1) / 2 = k
    · rw [h1, sw_a]
      by_cases h2 : i = c
      · subst h2; rw [sw_b]; exact hle
      · rw [sw_o g (by omega) h2]
        exact hmin i h0 hi h1
    · rw [sw_o g h1 hne]
      by_cases h3 : i = k
      · subst h3
        rw [sw_a]
        exact h.2 c (by omega) hcn hpc h0
      · by_cases h4 : i = c
        · omega
        · rw [sw_o g h3 h4]
          exact h.1 i h0 hi h1
  · rw [hpc, sw_a]
    rw [sw_o g (by omega) (by omega)]
    have := h.1 i h0 hi (by omega)
    rw [he] at this; exact this
theorem root_min {er : Nat → Nat} {hs : Nat} {hp : Nat → Nat} (h : ∀ i, 0 < i → i < hs → ky er (hp ((i - 1) / 2)) ≤ ky er (hp i)) : ∀ n i, i < n → i < hs → ky er (hp 0) ≤ ky er (hp i)
  | 0, i, hi, _ => by omega
  | n + 1, i, hi, hl => by
    rcases Nat.eq_zero_or_pos i with z | z
    · subst z; exact Nat.le_refl _
    · exact Nat.le_trans (root_min h n ((i - 1) / 2) (by omega) (by omega)) (h i z hl)
section WH
variable {l : Launch} {D : va_G} {cs : Nat → ClassId} {ad : Nat → Nat} {nb sp : Nat} {F : Fl} {S : SW}
theorem c_W_push {er : Nat → Nat} {P : Nat → Prop} (hG : Geo ad (5 * nb + 10)) (he : ∀ b, b < nb → S.2.2.1 1 b = nI (er b) ∧ er b < 100000) (hnb : nb ≤ 12) (hH0 : HpOK ad nb er S P) {b : Nat} (hb0 : b < nb) (hbP : ¬ P b) : RWv l D cs ad (5 * nb + 10) (eC ad cs nb) y_W_push b_W_push 3 none 2 [.ref (ad 0), .ref (ad (5 * b + 10))] S (fun u => ∃ WI HP, u = (WI, S.2.1, S.2.2.1, S.2.2.2.1, S.2.2.2.2.1, HP, S.2.2.2.2.2.2) ∧ (∀ k, k ≠ 8 → WI k = S.1 k) ∧ HpOK ad nb er u (fun c => P c ∨ c = b)) := by
  refine MC.intro (by decide) (Nat.le_of_ble_eq_true rfl) ?_
  intro p e s m below meth c C hr hlk hnm hH ls hl
  have hI : In D ad (5 * nb + 10) s (eC ad cs nb S) s.heap [] := ⟨hG, hH, va_S.rf⟩
  have hx := C.1.1
  have hb := C.1.2.1
  obtain ⟨hs, hp0, h8, ⟨hsn, hHP, hinj, hord⟩, hset⟩ := hH0
  -- the heap is not full
  have hlt : hs < nb := by
    rcases Nat.lt_or_ge hs nb with z | z
    · exact z
    · exfalso
      have hhs : hs = nb := by omega
      -- hp0 is injective from hs places into nb - 1 blocks
      have := pig nb (hs + 1) (fun i => if i = hs then b else hp0 i) (fun i hi => by
        show (if i = hs then b else hp0 i) < nb
        split
        · exact hb0
        · exact (hHP i (by omega)).1) (fun i j hi hj e => by
        have e' : (if i = hs then b else hp0 i) = (if j = hs then b else hp0 j) := e
        split at e' <;> split at e'
        · omega
        · exact absurd ((hset b).mpr ⟨j, by omega, e'.symm⟩) hbP
        · exact absurd ((hset b).mpr ⟨i, by omega, e'⟩) hbP
        · exact hinj i j (by omega) (by omega) e')
      omega
  refine lv_aload_n hx hb d_W_push_0 rfl (lv_at hl 0 rfl) ?_
  refine lv_dup hx hb d_W_push_1 rfl ?_
  refine w_geti C hI 8 (by decide) k_fl_W_49 rfl rfl (h8) d_W_push_2 ?_
  refine lv_dup_x1 hx hb d_W_push_5 rfl rfl ?_
  refine lv_iconst (v := nI 1) hx hb d_W_push_6 (by decide) ?_
  refine an_add C d_W_push_7 ?_
  refine w_puti C hI 8 (by omega) k_fl_W_49 rfl rfl rfl rfl d_W_push_8 (fun H locs WI hWI hI => ?_)
  refine lv_istore_n (lv' := [(2, _), (0, _), (1, _)]) hx hb d_W_push_11 rfl hl (by decide) rfl (fun ls hl => ?_)
  refine W_while (fun k => k) (fun k H locs ls => k ≤ hs ∧ ∃ (g : Nat → Nat) (HP : Nat → Option Nat), g k = b ∧ (∀ i, i ≤ hs → g i < nb) ∧ (∀ i, i ≤ hs → i ≠ k → HP i = some (ad (5 * g i + 10))) ∧ (∀ i j, i ≤ hs → j ≤ hs → g i = g j → i = j) ∧ (∀ c, (∃ i, i ≤ hs ∧ g i = c) ↔ (P c ∨ c = b)) ∧ Su er hs k g ∧ In D ad (5 * nb + 10) s (eC ad cs nb (WI, S.2.1, S.2.2.1, S.2.2.2.1, S.2.2.2.2.1, HP, S.2.2.2.2.2.2)) H locs ∧ lv_has ls 3 [(0, .ref (ad 0)), (1, .ref (ad (5 * b + 10))), (2, .int (nI k))]) ?_ hs ⟨Nat.le_refl _, va_up hp0 hs b, S.2.2.2.2.2.1, va_up_self _ _ _, ?_, ?_, ?_, ?_, ?_, hI, lv_sub hl [1, 2, 0] rfl⟩
  · intro k H locs ls ⟨hk, g, HP, hgk, hgn, hgH, hgi, hgs, hsu, hI, hl⟩ ih
    refine W_if (P := 0 < k → ky er (g ((k - 1) / 2)) ≤ ky er b) (g2 := F0 m 58 ls []) (fun hend => ?_) (fun J => ?_)
    · refine lv_aload_n hx hb d_W_push_58 rfl (lv_at hl 0 rfl) ?_
      refine w_getr C hI 7 (by decide) k_fl_W_39 rfl 3 rfl d_W_push_59 ?_
      refine lv_iload_n hx hb d_W_push_62 rfl (lv_at hl 2 rfl) ?_
      refine lv_aload_n hx hb d_W_push_63 rfl (lv_at hl 1 rfl) ?_
      refine w_hpp C hI (i := k) (b := b) (by omega) hb0 (by omega) d_W_push_64 (fun H locs HQ hHQ hI => ?_)
      refine rt_RWv C hI hr hlk ⟨WI, HQ, rfl, fun j hj => by rw [hWI, va_up_ne _ _ hj], hs + 1, g, by show WI 8 = _; rw [hWI]; rfl, ⟨by omega, fun i hi => ⟨hgn i (by omega), ?_⟩, fun i j hi hj => hgi i j (by omega) (by omega), fun i h0 hi => ?_⟩, fun c => ?_⟩ d_W_push_65
      · show HQ i = _
        rw [hHQ]
        by_cases z : i = k
        · subst z; rw [va_up_self, hgk]
        · rw [va_up_ne _ _ z]; exact hgH i (by omega) z
      · by_cases z : i = k
        · subst z; rw [hgk]; exact hend h0
        · exact hsu.1 i h0 (by omega) z
      · show (P c ∨ c = b) ↔ _
        rw [← hgs c]
        constructor
        · rintro ⟨i, hi, e⟩; exact ⟨i, by omega, e⟩
        · rintro ⟨i, hi, e⟩; exact ⟨i, by omega, e⟩
    · refine lv_iload_n hx hb d_W_push_12 rfl (lv_at hl 2 rfl) ?_
      refine bz_le (tgt := 58) C (by omega) d_W_push_13 (by decide) (fun k1 => ?_) (fun k1 => ?_)
      · exact J (fun z => by omega)
      · have hpar : (k - 1) / 2 < k := by omega
        have hgp := hgH ((k - 1) / 2) (by omega) (by omega)
        have hgpn := hgn ((k - 1) / 2) (by omega)
        refine lv_aload_n hx hb d_W_push_16 rfl (lv_at hl 1 rfl) ?_
        refine lv_aload_n hx hb d_W_push_17 rfl (lv_at hl 0 rfl) ?_
        refine w_getr C hI 7 (by decide) k_fl_W_39 rfl 3 rfl d_W_push_18 ?_
        refine lv_iload_n hx hb d_W_push_21 rfl (lv_at hl 2 rfl) ?_
        refine lv_iconst (v := nI 1) hx hb d_W_push_22 (by decide) ?_
        refine an_sub C (by omega) d_W_push_23 ?_
        refine lv_iconst (v := nI 2) hx hb d_W_push_24 (by decide) ?_
        refine an_div C (by omega) (by omega) (by omega) d_W_push_25 ?_
        refine w_hp C hI (by omega) (by omega) hgp d_W_push_26 ?_
        refine bc_ROi C hI (c_B_cmp (S := (WI, S.2.1, S.2.2.1, S.2.2.2.1, S.2.2.2.2.1, HP, S.2.2.2.2.2.2)) hG he hnb hb0 hgpn) yv_B_cmp k_ml_W_52 rfl (by omega) (by decide) rfl hl.1 rfl (Nat.le_of_ble_eq_true rfl) d_W_push_27 ⟨Nat.le_refl _, Nat.le_refl _⟩ (fun r hp => ?_)
        refine lv_if_ge (tgt := 58) hx hb d_W_push_30 (by decide) (fun k2 => ?_) (fun k2 => ?_)
        · exact J (fun _ => hp.mp k2)
        · have hlt2 : ky er b < ky er (g ((k - 1) / 2)) := by
            rcases Nat.lt_or_ge (ky er b) (ky er (g ((k - 1) / 2))) with z | z
            · exact z
            · exact absurd (hp.mpr z) k2
          refine lv_aload_n hx hb d_W_push_33 rfl (lv_at hl 0 rfl) ?_
          refine w_getr C hI 7 (by decide) k_fl_W_39 rfl 3 rfl d_W_push_34 ?_
          refine lv_iload_n hx hb d_W_push_37 rfl (lv_at hl 2 rfl) ?_
          refine lv_aload_n hx hb d_W_push_38 rfl (lv_at hl 0 rfl) ?_
          refine w_getr C hI 7 (by decide) k_fl_W_39 rfl 3 rfl d_W_push_39 ?_
          refine lv_iload_n hx hb d_W_push_42 rfl (lv_at hl 2 rfl) ?_
          refine lv_iconst (v := nI 1) hx hb d_W_push_43 (by decide) ?_
          refine an_sub C (by omega) d_W_push_44 ?_
          refine lv_iconst (v := nI 2) hx hb d_W_push_45 (by decide) ?_
          refine an_div C (by omega) (by omega) (by omega) d_W_push_46 ?_
          refine w_hp C hI (by omega) (by omega) hgp d_W_push_47 ?_
          refine w_hpp C hI (i := k) (b := g ((k - 1) / 2)) (by omega) hgpn (by omega) d_W_push_48 (fun H locs HQ hHQ hI => ?_)
          refine lv_iload_n hx hb d_W_push_49 rfl (lv_at hl 2 rfl) ?_
          refine lv_iconst (v := nI 1) hx hb d_W_push_50 (by decide) ?_
          refine an_sub C (by omega) d_W_push_51 ?_
          refine lv_iconst (v := nI 2) hx hb d_W_push_52 (by decide) ?_
          refine an_div C (by omega) (by omega) (by omega) d_W_push_53 ?_
          refine lv_istore_n (lv' := [(2, _), (0, _), (1, _)]) hx hb d_W_push_54 rfl hl (by decide) rfl (fun ls hl => ?_)
          refine lv_goto (tgt := 12) hx hb d_W_push_55 (by decide) ?_
          refine ih ((k - 1) / 2) _ _ _ (by omega) ⟨by omega, sw g k ((k - 1) / 2), HQ, by rw [sw_b]; exact hgk, fun i hi => ?_, fun i hi hne => ?_, sw_inj (by omega) (by omega) hgi, fun c => by rw [sw_set (by omega) (by omega)]; exact hgs c, hsu.up k1 (by omega) (by rw [hgk]; exact hlt2), hI, lv_sub hl [1, 2, 0] rfl⟩
          · unfold sw; split
            · exact hgpn
            · split
              · exact hgn k (by omega)
              · exact hgn i hi
          · rw [hHQ]
            by_cases z : i = k
            · subst z; rw [va_up_self, sw_a]
            · rw [va_up_ne _ _ z, sw_o g z hne]; exact hgH i hi z
  · intro i hi
    by_cases z : i = hs
    · subst z; rw [va_up_self]; exact hb0
    · rw [va_up_ne _ _ z]; exact (hHP i (by omega)).1
  · intro i hi hne
    rw [va_up_ne _ _ hne]; exact (hHP i (by omega)).2
  · intro i j hi hj e
    by_cases z1 : i = hs <;> by_cases z2 : j = hs
    · omega
    · subst z1
      rw [va_up_self, va_up_ne _ _ z2] at e
      exact absurd ((hset b).mpr ⟨j, by omega, e.symm⟩) hbP
    · subst z2
      rw [va_up_self, va_up_ne _ _ z1] at e
      exact absurd ((hset b).mpr ⟨i, by omega, e⟩) hbP
    · rw [va_up_ne _ _ z1, va_up_ne _ _ z2] at e
      exact hinj i j (by omega) (by omega) e
  · intro c
    rw [hset c]
    constructor
    · rintro ⟨i, hi, e⟩
      by_cases z : i = hs
      · subst z; rw [va_up_self] at e; exact Or.inr e.symm
      · rw [va_up_ne _ _ z] at e; exact Or.inl ⟨i, by omega, e⟩
    · rintro (⟨i, hi, e⟩ | e)
      · exact ⟨i, by omega, by rw [va_up_ne _ _ (by omega)]; exact e⟩
      · exact ⟨hs, Nat.le_refl _, by rw [va_up_self]; exact e.symm⟩
  · refine ⟨fun i h0 hi hne => ?_, fun i h0 hi he2 => by omega⟩
    rw [va_up_ne _ _ (by omega), va_up_ne _ _ hne]
    exact hord i h0 (by omega)
theorem c_W_pop {er : Nat → Nat} {P : Nat → Prop} (hG : Geo ad (5 * nb + 10)) (he : ∀ b, b < nb → S.2.2.1 1 b = nI (er b) ∧ er b < 100000) (hnb : nb ≤ 12) (hH0 : HpOK ad nb er S P) (hne : ∃ b, P b) : RWq l D cs ad (5 * nb + 10) (eC ad cs nb) y_W_pop b_W_pop 5 (some (.object "WornFlash$Block")) 2 [.ref (ad 0)] S (fun r u => ∃ b WI HP, r = some (ad (5 * b + 10)) ∧ b < nb ∧ P b ∧ (∀ c, P c → ky er b ≤ ky er c) ∧ u = (WI, S.2.1, S.2.2.1, S.2.2.2.1, S.2.2.2.2.1, HP, S.2.2.2.2.2.2) ∧ (∀ k, k ≠ 8 → WI k = S.1 k) ∧ HpOK ad nb er u (fun c => P c ∧ c ≠ b)) := by
  refine MC.intro (by decide) (Nat.le_of_ble_eq_true rfl) ?_
  intro p e s m below meth c C hr hlk hnm hH ls hl
  have hI : In D ad (5 * nb + 10) s (eC ad cs nb S) s.heap [] := ⟨hG, hH, va_S.rf⟩
  have hx := C.1.1
  have hb := C.1.2.1
  obtain ⟨hs, hp0, h8, ⟨hsn, hHP, hinj, hord⟩, hset⟩ := hH0
  have hpos : 0 < hs := by
    obtain ⟨b, hb1⟩ := hne
    obtain ⟨i, hi, -⟩ := (hset b).mp hb1
    omega
  obtain ⟨n, rfl⟩ : ∃ n, hs = n + 1 := ⟨hs - 1, by omega⟩
  have h00 := hHP 0 (by omega)
  have h0n := hHP n (by omega)
  refine lv_aload_n hx hb d_W_pop_0 rfl (lv_at hl 0 rfl) ?_
  refine w_getr C hI 7 (by decide) k_fl_W_39 rfl 3 rfl d_W_pop_1 ?_
  refine lv_iconst (v := nI 0) hx hb d_W_pop_4 (by decide) ?_
  refine w_hp C hI (by omega) (by omega) h00.2 d_W_pop_5 ?_
  refine lv_astore_n (lv' := [(1, _), (0, _)]) hx hb d_W_pop_6 rfl hl (by decide) rfl (fun ls hl => ?_)
  refine lv_aload_n hx hb d_W_pop_7 rfl (lv_at hl 1 rfl) ?_
  refine w_getr C hI 7 (by decide) k_fl_W_39 rfl 3 rfl d_W_pop_8 ?_
  refine lv_aload_n hx hb d_W_pop_11 rfl (lv_at hl 1 rfl) ?_
  refine lv_dup hx hb d_W_pop_12 rfl ?_
  refine w_geti C hI 8 (by decide) k_fl_W_49 rfl rfl (h8) d_W_pop_13 ?_
  refine lv_iconst (v := nI 1) hx hb d_W_pop_16 (by decide) ?_
  refine an_sub C (by omega) d_W_pop_17 ?_
  refine lv_dup_x1 hx hb d_W_pop_18 rfl rfl ?_
  refine w_puti C hI 8 (by omega) k_fl_W_49 rfl rfl rfl rfl d_W_pop_19 (fun H locs WI hWI hI => ?_)
  have hn1 : n + 1 - 1 = n := by omega
  rw [hn1] at hWI ⊢
  refine w_hp C hI (by omega) (by omega) h0n.2 d_W_pop_22 ?_
  refine lv_astore_n (lv' := [(2, _), (1, _), (0, _)]) hx hb d_W_pop_23 rfl hl (by decide) rfl (fun ls hl => ?_)
  refine lv_iconst (v := nI 0) hx hb d_W_pop_24 (by decide) ?_
  refine lv_istore_n (lv' := [(3, _), (2, _), (1, _), (0, _)]) hx hb d_W_pop_25 rfl hl (by decide) rfl (fun ls hl => ?_)
  refine W_while (fun k => n - k) (fun k H locs ls => (n = 0 ∧ k = 0 ∨ k < n) ∧ ∃ (g : Nat → Nat) (HP : Nat → Option Nat), (0 < n → g k = hp0 n) ∧ (∀ i, i < n → g i < nb) ∧ (∀ i, i < n → i ≠ k → HP i = some (ad (5 * g i + 10))) ∧ (∀ i j, i < n → j < n → g i = g j → i = j) ∧ (∀ c, (∃ i, i < n ∧ g i = c) ↔ (P c ∧ c ≠ hp0 0)) ∧ Sd er n k g ∧ In D ad (5 * nb + 10) s (eC ad cs nb (WI, S.2.1, S.2.2.1, S.2.2.2.1, S.2.2.2.2.1, HP, S.2.2.2.2.2.2)) H locs ∧ lv_has ls 5 [(0, .ref (ad 0)), (1, .ref (ad (5 * hp0 0 + 10))), (2, .ref (ad (5 * hp0 n + 10))), (3, .int (nI k))]) ?_ 0 ⟨by omega, va_up hp0 0 (hp0 n), S.2.2.2.2.2.1, fun _ => va_up_self _ _ _, ?_, ?_, ?_, ?_, ?_, hI, lv_sub hl [3, 2, 1, 0] rfl⟩
  · intro k H locs ls ⟨hk, g, HP, hgk, hgn, hgH, hgi, hgs, hsd, hI, hl⟩ ih
    have hw8 : WI 8 = nI n := by rw [hWI]; rfl
    refine W_atH (pc2 := 117) (st2 := []) (fun H' locs' ls => H' = H ∧ locs' = locs ∧ (∀ i, 0 < i → i < n → (i - 1) / 2 = k → ky er (hp0 n) ≤ ky er (g i)) ∧ lv_has ls 5 [(0, .ref (ad 0)), (1, .ref (ad (5 * hp0 0 + 10))), (2, .ref (ad (5 * hp0 n + 10))), (3, .int (nI k))]) ?_ (fun J => ?_)
    · rintro H' locs' ls ⟨rfl, rfl, hch, hl⟩
      refine lv_aload_n hx hb d_W_pop_117 rfl (lv_at hl 0 rfl) ?_
      refine w_getr C hI 7 (by decide) k_fl_W_39 rfl 3 rfl d_W_pop_118 ?_
      refine lv_iload_n hx hb d_W_pop_121 rfl (lv_at hl 3 rfl) ?_
      refine lv_aload_n hx hb d_W_pop_122 rfl (lv_at hl 2 rfl) ?_
      refine w_hpp C hI (i := k) (b := hp0 n) (by omega) h0n.1 (by omega) d_W_pop_123 (fun H locs HQ hHQ hI => ?_)
      refine lv_aload_n hx hb d_W_pop_124 rfl (lv_at hl 1 rfl) ?_
      refine rt_RWq (v := some (ad (5 * hp0 0 + 10))) C hI hr hlk ⟨hp0 0, WI, HQ, rfl, h00.1, (hset _).mpr ⟨0, by omega, rfl⟩, fun c hc => ?_, rfl, fun j hj => by rw [hWI, va_up_ne _ _ hj], n, g, hw8, ⟨by omega, fun i hi => ⟨hgn i hi, ?_⟩, hgi, fun i h0 hi => ?_⟩, fun c => (hgs c).symm⟩ d_W_pop_125
      · obtain ⟨i, hi, rfl⟩ := (hset c).mp hc
        exact root_min hord (i + 1) i (by omega) hi
      · show HQ i = _
        rw [hHQ]
        by_cases z : i = k
        · subst z; rw [va_up_self, hgk (by omega)]
        · rw [va_up_ne _ _ z]; exact hgH i hi z
      · by_cases z : (i - 1) / 2 = k
        · rw [z, hgk (by omega)]; exact hch i h0 hi z
        · exact hsd.1 i h0 hi z
    · refine lv_iconst (v := nI 2) hx hb d_W_pop_26 (by decide) ?_
      refine lv_iload_n hx hb d_W_pop_27 rfl (lv_at hl 3 rfl) ?_
      refine an_mul C d_W_pop_28 ?_
      refine lv_iconst (v := nI 1) hx hb d_W_pop_29 (by decide) ?_
      refine an_add C d_W_pop_30 ?_
      refine lv_aload_n hx hb d_W_pop_31 rfl (lv_at hl 0 rfl) ?_
      refine w_geti C hI 8 (by decide) k_fl_W_49 rfl rfl (hw8) d_W_pop_32 ?_
      refine bn_ge (tgt := 117) C (by omega) (by omega) d_W_pop_35 (by decide) (fun k1 => ?_) (fun k1 => ?_)
      · exact J _ _ _ ⟨rfl, rfl, fun i h0 hi hpar => by omega, hl⟩
      · have hkn : k < n := by omega
        have hgk' := hgk (by omega)
        have hc1 := hgH (2 * k + 1) (by omega) (by omega)
        have hc1n := hgn (2 * k + 1) (by omega)
        refine lv_iconst (v := nI 2) hx hb d_W_pop_38 (by decide) ?_
        refine lv_iload_n hx hb d_W_pop_39 rfl (lv_at hl 3 rfl) ?_
        refine an_mul C d_W_pop_40 ?_
        refine lv_iconst (v := nI 1) hx hb d_W_pop_41 (by decide) ?_
        refine an_add C d_W_pop_42 ?_
        refine lv_istore (lv' := [(4, _), (0, _), (1, _), (2, _), (3, _)]) hx hb d_W_pop_43 hl (by decide) rfl (fun ls hl => ?_)
        refine lv_iload hx hb d_W_pop_45 (lv_at hl 0 rfl) ?_
        refine lv_iconst (v := nI 1) hx hb d_W_pop_47 (by decide) ?_
        refine an_add C d_W_pop_48 ?_
        refine lv_aload_n hx hb d_W_pop_49 rfl (lv_at hl 1 rfl) ?_
        refine w_geti C hI 8 (by decide) k_fl_W_49 rfl rfl (hw8) d_W_pop_50 ?_
        -- c is the lesser child
        refine W_atH (pc2 := 81) (st2 := []) (fun H' locs' ls => H' = H ∧ locs' = locs ∧ ∃ c, (c = 2 * k + 1 ∨ c = 2 * k + 2) ∧ c < n ∧ (∀ i, 0 < i → i < n → (i - 1) / 2 = k → ky er (g c) ≤ ky er (g i)) ∧ lv_has ls 5 [(0, .ref (ad 0)), (1, .ref (ad (5 * hp0 0 + 10))), (2, .ref (ad (5 * hp0 n + 10))), (3, .int (nI k)), (4, .int (nI c))]) ?_ (fun J2 => ?_)
        · rintro H' locs' ls ⟨rfl, rfl, c', hcc, hcn, hmin, hl⟩
          have hcH := hgH c' hcn (by omega)
          have hcnb := hgn c' hcn
          refine lv_aload_n hx hb d_W_pop_81 rfl (lv_at hl 2 rfl) ?_
          refine lv_aload_n hx hb d_W_pop_82 rfl (lv_at hl 0 rfl) ?_
          refine w_getr C hI 7 (by decide) k_fl_W_39 rfl 3 rfl d_W_pop_83 ?_
          refine lv_iload hx hb d_W_pop_86 (lv_at hl 4 rfl) ?_
          refine w_hp C hI (by omega) (by omega) hcH d_W_pop_88 ?_
          refine bc_ROi C hI (c_B_cmp (S := (WI, S.2.1, S.2.2.1, S.2.2.2.1, S.2.2.2.2.1, HP, S.2.2.2.2.2.2)) hG he hnb h0n.1 hcnb) yv_B_cmp k_ml_W_52 rfl (by omega) (by decide) rfl hl.1 rfl (Nat.le_of_ble_eq_true rfl) d_W_pop_89 ⟨Nat.le_refl _, Nat.le_refl _⟩ (fun r hp => ?_)
          refine lv_if_ge (tgt := 98) hx hb d_W_pop_92 (by decide) (fun k2 => ?_) (fun k2 => ?_)
          · have hle := hp.mp k2
            refine lv_aload_n hx hb d_W_pop_98 rfl (lv_at hl 0 rfl) ?_
            refine w_getr C hI 7 (by decide) k_fl_W_39 rfl 3 rfl d_W_pop_99 ?_
            refine lv_iload_n hx hb d_W_pop_102 rfl (lv_at hl 3 rfl) ?_
            refine lv_aload_n hx hb d_W_pop_103 rfl (lv_at hl 0 rfl) ?_
            refine w_getr C hI 7 (by decide) k_fl_W_39 rfl 3 rfl d_W_pop_104 ?_
            refine lv_iload hx hb d_W_pop_107 (lv_at hl 4 rfl) ?_
            refine w_hp C hI (by omega) (by omega) hcH d_W_pop_109 ?_
            refine w_hpp C hI (i := k) (b := g c') (by omega) hcnb (by omega) d_W_pop_110 (fun H locs HQ hHQ hI => ?_)
            refine lv_iload hx hb d_W_pop_111 (lv_at hl 4 rfl) ?_
            refine lv_istore_n (lv' := [(3, _), (0, _), (1, _), (2, _), (4, _)]) hx hb d_W_pop_113 rfl hl (by decide) rfl (fun ls hl => ?_)
            refine lv_goto (tgt := 26) hx hb d_W_pop_114 (by decide) ?_
            refine ih c' _ _ _ (by omega) ⟨Or.inr hcn, sw g k c', HQ, fun _ => by rw [sw_b]; exact hgk', fun i hi => ?_, fun i hi hne => ?_, ?_, fun c => ?_, hsd.down hcc hcn hmin (by rw [hgk']; exact hle), hI, lv_sub hl [1, 2, 3, 0] rfl⟩
            · unfold sw; split
              · exact hcnb
              · split
                · exact hgn k hkn
                · exact hgn i hi
            · rw [hHQ]
              by_cases z : i = k
              · subst z; rw [va_up_self, sw_a]
              · rw [va_up_ne _ _ z, sw_o g z hne]; exact hgH i hi z
            · intro i j hi hj
              exact sw_inj (n := n - 1) (by omega) (by omega) (fun i j hi hj => hgi i j (by omega) (by omega)) i j (by omega) (by omega)
            · have := sw_set (g := g) (n := n - 1) (a := k) (b := c') (by omega) (by omega) c
              rw [← hgs c]
              constructor
              · rintro ⟨i, hi, e⟩
                obtain ⟨j, hj, e2⟩ := this.mp ⟨i, by omega, e⟩
                exact ⟨j, by omega, e2⟩
              · rintro ⟨i, hi, e⟩
                obtain ⟨j, hj, e2⟩ := this.mpr ⟨i, by omega, e⟩
                exact ⟨j, by omega, e2⟩
          · have hlt2 : ky er (hp0 n) < ky er (g c') := by
              rcases Nat.lt_or_ge (ky er (hp0 n)) (ky er (g c')) with z | z
              · exact z
              · exact absurd (hp.mpr z) k2
            refine lv_goto (tgt := 117) hx hb d_W_pop_95 (by decide) ?_
            exact J _ _ _ ⟨rfl, rfl, fun i h0 hi hpar => by have := hmin i h0 hi hpar; omega, lv_sub hl [0, 1, 2, 3] rfl⟩
        · refine bn_ge (tgt := 81) C (by omega) (by omega) d_W_pop_53 (by decide) (fun k2 => ?_) (fun k2 => ?_)
          · exact J2 _ _ _ ⟨rfl, rfl, 2 * k + 1, Or.inl rfl, by omega, fun i h0 hi hpar => by
              have : i = 2 * k + 1 := by omega
              rw [this]; exact Nat.le_refl _, lv_sub hl [1, 2, 3, 4, 0] rfl⟩
          · have hc2 := hgH (2 * k + 2) (by omega) (by omega)
            have hc2n := hgn (2 * k + 2) (by omega)
            refine lv_aload_n hx hb d_W_pop_56 rfl (lv_at hl 1 rfl) ?_
            refine w_getr C hI 7 (by decide) k_fl_W_39 rfl 3 rfl d_W_pop_57 ?_
            refine lv_iload hx hb d_W_pop_60 (lv_at hl 0 rfl) ?_
            refine lv_iconst (v := nI 1) hx hb d_W_pop_62 (by decide) ?_
            refine an_add C d_W_pop_63 ?_
            refine w_hp C hI (by omega) (by omega) hc2 d_W_pop_64 ?_
            refine lv_aload_n hx hb d_W_pop_65 rfl (lv_at hl 1 rfl) ?_
            refine w_getr C hI 7 (by decide) k_fl_W_39 rfl 3 rfl d_W_pop_66 ?_
            refine lv_iload hx hb d_W_pop_69 (lv_at hl 0 rfl) ?_
            refine w_hp C hI (by omega) (by omega) hc1 d_W_pop_71 ?_
            refine bc_ROi C hI (c_B_cmp (S := (WI, S.2.1, S.2.2.1, S.2.2.2.1, S.2.2.2.2.1, HP, S.2.2.2.2.2.2)) hG he hnb hc2n hc1n) yv_B_cmp k_ml_W_52 rfl (by omega) (by decide) rfl hl.1 rfl (Nat.le_of_ble_eq_true rfl) d_W_pop_72 ⟨Nat.le_refl _, Nat.le_refl _⟩ (fun r hp => ?_)
            refine lv_if_ge (tgt := 81) hx hb d_W_pop_75 (by decide) (fun k3 => ?_) (fun k3 => ?_)
            · have h3 := hp.mp k3
              exact J2 _ _ _ ⟨rfl, rfl, 2 * k + 1, Or.inl rfl, by omega, fun i h0 hi hpar => by
                rcases (show i = 2 * k + 1 ∨ i = 2 * k + 2 by omega) with z | z
                · rw [z]; exact Nat.le_refl _
                · rw [z]; exact h3, lv_sub hl [1, 2, 3, 4, 0] rfl⟩
            · have h3 : ky er (g (2 * k + 2)) < ky er (g (2 * k + 1)) := by
                rcases Nat.lt_or_ge (ky er (g (2 * k + 2))) (ky er (g (2 * k + 1))) with z | z
                · exact z
                · exact absurd (hp.mpr z) k3
              refine lv_iinc (lv' := [(4, _), (0, _), (1, _), (2, _), (3, _)]) hx hb d_W_pop_78 hl (k := 0) rfl (nI_inc _) (by decide) rfl (fun ls hl => ?_)
              exact J2 _ _ _ ⟨rfl, rfl, 2 * k + 2, Or.inr rfl, by omega, fun i h0 hi hpar => by
                rcases (show i = 2 * k + 1 ∨ i = 2 * k + 2 by omega) with z | z
                · rw [z]; omega
                · rw [z]; exact Nat.le_refl _, lv_sub hl [1, 2, 3, 4, 0] rfl⟩
  · intro i hi
    by_cases z : i = 0
    · subst z; rw [va_up_self]; exact h0n.1
    · rw [va_up_ne _ _ z]; exact (hHP i (by omega)).1
  · intro i hi hne2
    rw [va_up_ne _ _ hne2]; exact (hHP i (by omega)).2
  · intro i j hi hj e
    by_cases z1 : i = 0 <;> by_cases z2 : j = 0
    · omega
    · subst z1
      rw [va_up_self, va_up_ne _ _ z2] at e
      have := hinj n j (by omega) (by omega) e; omega
    · subst z2
      rw [va_up_self, va_up_ne _ _ z1] at e
      have := hinj i n (by omega) (by omega) e; omega
    · rw [va_up_ne _ _ z1, va_up_ne _ _ z2] at e
      exact hinj i j (by omega) (by omega) e
  · intro c
    rw [hset c]
    constructor
    · rintro ⟨i, hi, e⟩
      by_cases z : i = 0
      · subst z; rw [va_up_self] at e
        exact ⟨⟨n, by omega, e⟩, fun z => by have := hinj n 0 (by omega) (by omega) (by rw [e, z]); omega⟩
      · rw [va_up_ne _ _ z] at e
        exact ⟨⟨i, by omega, e⟩, fun z2 => by have := hinj i 0 (by omega) (by omega) (by rw [e, z2]); omega⟩
    · rintro ⟨⟨i, hi, e⟩, hne2⟩
      have hi0 : i ≠ 0 := fun z => by subst z; exact hne2 e.symm
      by_cases z : i = n
      · subst z
        exact ⟨0, by omega, by rw [va_up_self]; exact e⟩
      · exact ⟨i, by omega, by rw [va_up_ne _ _ hi0]; exact e⟩
  · refine ⟨fun i h0 hi hne2 => ?_, fun i h0 hi he2 hk0 => by omega⟩
    rw [va_up_ne _ _ hne2, va_up_ne _ _ (by omega)]
    exact hord i h0 (by omega)
end WH
end
section
/-! PURE: what is newest and valid, under programming and erasing -/
theorem bst_none {ok : Nat → Bool} {lt : Nat → Nat → Bool} : ∀ {n : Nat}, bst ok lt n = none ↔ ∀ i, i < n → ok i = false
  | 0 => ⟨fun _ i hi => by omega, fun _ => rfl⟩
  | n + 1 => by
    have ih := bst_none (ok := ok) (lt := lt) (n := n)
    constructor
    · intro h i hi
      unfold bst at h
      split at h
      · rename_i hn
        split at h
        · cases h
        · rename_i hk
          rcases (show i < n ∨ i = n by omega) with z | z
          · exact ih.mp hn i z
          · subst z; simpa using hk
      · split at h <;> cases h
    · intro h
      have hn := ih.mpr (fun i hi => h i (by omega))
      have hk := h n (by omega)
      unfold bst
      rw [hn]
      simp [hk]
theorem bmax {ok : Nat → Bool} {key : Nat → Nat} : ∀ {n p : Nat}, bst ok (fun k j => decide (key j < key k)) n = some p → p < n ∧ ok p = true ∧ (∀ i, i < n → ok i = true → key i ≤ key p) ∧ (∀ i, i < p → ok i = true → key i < key p)
  | 0, p, h => by cases h
  | n + 1, p, h => by
    unfold bst at h
    split at h
    · rename_i hn
      split at h
      · rename_i hk
        cases h
        have h0 := bst_none.mp hn
        refine ⟨by omega, hk, fun i hi ho => ?_, fun i hi ho => ?_⟩
        · rcases (show i < n ∨ i = n by omega) with z | z
          · rw [h0 i z] at ho; cases ho
          · subst z; exact Nat.le_refl _
        · rw [h0 i hi] at ho; cases ho
      · cases h
    · rename_i j hj
      obtain ⟨a1, a2, a3, a4⟩ := bmax hj
      split at h
      · rename_i hk
        cases h
        simp only [Bool.and_eq_true, decide_eq_true_eq] at hk
        refine ⟨by omega, hk.1, fun i hi ho => ?_, fun i hi ho => ?_⟩
        · rcases (show i < n ∨ i = n by omega) with z | z
          · have := a3 i z ho; omega
          · subst z; exact Nat.le_refl _
        · have := a3 i hi ho; omega
      · rename_i hk
        cases h
        refine ⟨by omega, a2, fun i hi ho => ?_, a4⟩
        rcases (show i < n ∨ i = n by omega) with z | z
        · exact a3 i z ho
        · subst z
          simp only [Bool.and_eq_true, decide_eq_true_eq, not_and] at hk
          have := hk ho; omega
theorem bmin {ok : Nat → Bool} {key : Nat → Nat} : ∀ {n p : Nat}, bst ok (fun k j => decide (key k < key j)) n = some p → p < n ∧ ok p = true ∧ (∀ i, i < n → ok i = true → key p ≤ key i) ∧ (∀ i, i < p → ok i = true → key p < key i)
  | 0, p, h => by cases h
  | n + 1, p, h => by
    unfold bst at h
    split at h
    · rename_i hn
      split at h
      · rename_i hk
        cases h
        have h0 := bst_none.mp hn
        refine ⟨by omega, hk, fun i hi ho => ?_, fun i hi ho => ?_⟩
        · rcases (show i < n ∨ i = n by omega) with z | z
          · rw [h0 i z] at ho; cases ho
          · subst z; exact Nat.le_refl _
        · rw [h0 i hi] at ho; cases ho
      · cases h
    · rename_i j hj
      obtain ⟨a1, a2, a3, a4⟩ := bmin hj
      split at h
      · rename_i hk
        cases h
        simp only [Bool.and_eq_true, decide_eq_true_eq] at hk
        refine ⟨by omega, hk.1, fun i hi ho => ?_, fun i hi ho => ?_⟩
        · rcases (show i < n ∨ i = n by omega) with z | z
          · have := a3 i z ho; omega
          · subst z; exact Nat.le_refl _
        · have := a3 i hi ho; omega
      · rename_i hk
        cases h
        refine ⟨by omega, a2, fun i hi ho => ?_, a4⟩
        rcases (show i < n ∨ i = n by omega) with z | z
        · exact a3 i z ho
        · subst z
          simp only [Bool.and_eq_true, decide_eq_true_eq, not_and] at hk
          have := hk ho; omega
theorem bst_some {ok : Nat → Bool} {lt : Nat → Nat → Bool} {n i : Nat} (hi : i < n) (h : ok i = true) : ∃ p, bst ok lt n = some p := by
  cases hb : bst ok lt n with
  | none => rw [bst_none.mp hb i hi] at h; cases h
  | some p => exact ⟨p, rfl⟩
theorem bmax_of {ok : Nat → Bool} {key : Nat → Nat} {n p : Nat} (h1 : p < n) (h2 : ok p = true) (h3 : ∀ i, i < n → ok i = true → key i ≤ key p) (h4 : ∀ i, i < p → ok i = true → key i < key p) : bst ok (fun k j => decide (key j < key k)) n = some p := by
  obtain ⟨q, hq⟩ := bst_some (lt := fun k j => decide (key j < key k)) h1 h2
  obtain ⟨a1, a2, a3, a4⟩ := bmax hq
  rw [hq]
  congr 1
  have := h3 q a1 a2
  have := a3 p h1 h2
  rcases Nat.lt_trichotomy p q with z | z | z
  · have := a4 p z h2; omega
  · exact z.symm
  · have := h4 q z a2; omega
theorem bmin_of {ok : Nat → Bool} {key : Nat → Nat} {n p : Nat} (h1 : p < n) (h2 : ok p = true) (h3 : ∀ i, i < n → ok i = true → key p ≤ key i) (h4 : ∀ i, i < p → ok i = true → key p < key i) : bst ok (fun k j => decide (key k < key j)) n = some p := by
  obtain ⟨q, hq⟩ := bst_some (lt := fun k j => decide (key k < key j)) h1 h2
  obtain ⟨a1, a2, a3, a4⟩ := bmin hq
  rw [hq]
  congr 1
  have := h3 q a1 a2
  have := a3 p h1 h2
  rcases Nat.lt_trichotomy p q with z | z | z
  · have := a4 p z h2; omega
  · exact z.symm
  · have := h4 q z a2; omega
theorem fNew_some {nb : Nat} {F : Fl} {q p : Nat} (h : fNew nb F q = some p) : p < 4 * nb ∧ prg F p = true ∧ fSc F p = q ∧ (∀ i, i < 4 * nb → prg F i = true → fSc F i = q → fSr F i ≤ fSr F p) ∧ (∀ i, i < p → prg F i = true → fSc F i = q → fSr F i < fSr F p) := by
  obtain ⟨a1, a2, a3, a4⟩ := bmax (key := fSr F) h
  have hok : ∀ i, nwOk F q i = true ↔ prg F i = true ∧ fSc F i = q := fun i => by unfold nwOk; simp
  exact ⟨a1, ((hok p).mp a2).1, ((hok p).mp a2).2, fun i hi h1 h2 => a3 i hi ((hok i).mpr ⟨h1, h2⟩), fun i hi h1 h2 => a4 i hi ((hok i).mpr ⟨h1, h2⟩)⟩
theorem fNew_of {nb : Nat} {F : Fl} {q p : Nat} (h1 : p < 4 * nb) (h2 : prg F p = true) (h3 : fSc F p = q) (h4 : ∀ i, i < 4 * nb → prg F i = true → fSc F i = q → fSr F i ≤ fSr F p) (h5 : ∀ i, i < p → prg F i = true → fSc F i = q → fSr F i < fSr F p) : fNew nb F q = some p := by
  have hok : ∀ i, nwOk F q i = true ↔ prg F i = true ∧ fSc F i = q := fun i => by unfold nwOk; simp
  exact bmax_of (key := fSr F) h1 ((hok p).mpr ⟨h2, h3⟩) (fun i hi ho => h4 i hi ((hok i).mp ho).1 ((hok i).mp ho).2) (fun i hi ho => h5 i hi ((hok i).mp ho).1 ((hok i).mp ho).2)
theorem fNew_none {nb : Nat} {F : Fl} {q : Nat} : fNew nb F q = none ↔ ∀ i, i < 4 * nb → prg F i = true → fSc F i ≠ q := by
  unfold fNew
  rw [bst_none]
  constructor
  · intro h i hi hp hs
    have := h i hi
    unfold nwOk at this
    simp [hp, hs] at this
  · intro h i hi
    unfold nwOk
    cases hp : prg F i with
    | false => rfl
    | true => simp [h i hi hp]
/-- newest depends only on pages -/
theorem fNew_congr {nb : Nat} {F G : Fl} (hu : fUs F = fUs G) (hs : fSc F = fSc G) (hr : fSr F = fSr G) (q : Nat) : fNew nb F q = fNew nb G q := by
  unfold fNew nwOk nwLt prg
  rw [hu, hs, hr]
theorem vld_congr {nb : Nat} {F G : Fl} (hu : fUs F = fUs G) (hs : fSc F = fSc G) (hr : fSr F = fSr G) (p : Nat) : vld nb F p = vld nb G p := by
  unfold vld
  rw [fNew_congr hu hs hr, hs]
  unfold prg
  rw [hu]
theorem fVin_congr {nb : Nat} {F G : Fl} (hu : fUs F = fUs G) (hs : fSc F = fSc G) (hr : fSr F = fSr G) (b : Nat) : fVin nb F b = fVin nb G b := by
  unfold fVin
  congr 1
  funext q
  exact vld_congr hu hs hr _
theorem vld_iff {nb : Nat} {F : Fl} {p : Nat} : vld nb F p = true ↔ prg F p = true ∧ fNew nb F (fSc F p) = some p := by
  unfold vld; simp
theorem fNew_prog {nb : Nat} {F : Fl} {s : Nat} {v : Int32} {t : Bool} (hob : fOb F < nb) (hu : fUs F (fOb F) < 4) (hsr : ∀ p, p < 4 * nb → prg F p = true → fSr F p < fNx F) (q : Nat) : fNew nb (fProg F s v t) q = if q = s then some (fNp F) else fNew nb F q := by
  have hd := fNp_dm F hu
  have hnp : fNp F < 4 * nb := by omega
  have hpn := prg_np hu
  have hpp : ∀ i, prg (fProg F s v t) i = true ↔ (i = fNp F ∨ prg F i = true) := fun i => by rw [prg_prog hu]; simp
  have hsc : ∀ i, fSc (fProg F s v t) i = if i = fNp F then s else fSc F i := fun i => rfl
  have hsr2 : ∀ i, fSr (fProg F s v t) i = if i = fNp F then fNx F else fSr F i := fun i => rfl
  by_cases hq : q = s
  · rw [if_pos hq]
    refine fNew_of hnp ((hpp _).mpr (Or.inl rfl)) (by rw [hsc, if_pos rfl]; exact hq.symm) (fun i hi hp hs => ?_) (fun i hi hp hs => ?_)
    · rw [hsr2, hsr2, if_pos rfl]
      split
      · exact Nat.le_refl _
      · rename_i hne
        have := hsr i hi (((hpp i).mp hp).resolve_left hne); omega
    · rw [hsr2, hsr2, if_pos rfl, if_neg (by omega)]
      exact hsr i (by omega) (((hpp i).mp hp).resolve_left (by omega))
  · rw [if_neg hq]
    cases hn : fNew nb F q with
    | none =>
      rw [fNew_none] at hn ⊢
      intro i hi hp hs
      rw [hsc] at hs
      split at hs
      · exact hq hs.symm
      · rename_i hne
        exact hn i hi (((hpp i).mp hp).resolve_left hne) hs
    | some p =>
      obtain ⟨a1, a2, a3, a4, a5⟩ := fNew_some hn
      have hpne : p ≠ fNp F := fun z => by rw [z, hpn] at a2; cases a2
      refine fNew_of a1 ((hpp p).mpr (Or.inr a2)) (by rw [hsc, if_neg hpne]; exact a3) (fun i hi hp hs => ?_) (fun i hi hp hs => ?_)
      · rw [hsc] at hs
        split at hs
        · exact absurd hs.symm hq
        · rename_i hne
          rw [hsr2, hsr2, if_neg hpne, if_neg hne]
          exact a4 i hi (((hpp i).mp hp).resolve_left hne) hs
      · rw [hsc] at hs
        split at hs
        · exact absurd hs.symm hq
        · rename_i hne
          rw [hsr2, hsr2, if_neg hpne, if_neg hne]
          exact a5 i hi (((hpp i).mp hp).resolve_left hne) hs
theorem cnt_congr {f g : Nat → Bool} : ∀ {n : Nat}, (∀ i, i < n → f i = g i) → cnt f n = cnt g n
  | 0, _ => rfl
  | n + 1, h => by
    unfold cnt
    rw [cnt_congr (fun i hi => h i (by omega)), h n (by omega)]
theorem cnt_one {f g : Nat → Bool} {i : Nat} (hf : f i = false) (hg : g i = true) (ho : ∀ j, j ≠ i → f j = g j) : ∀ {n : Nat}, i < n → cnt g n = cnt f n + 1
  | 0, h => by omega
  | n + 1, h => by
    unfold cnt
    by_cases z : i = n
    · subst z
      rw [cnt_congr (f := g) (g := f) (n := i) (fun j hj => (ho j (by omega)).symm), hf, hg]
      simp
    · have := cnt_one hf hg ho (n := n) (by omega)
      rw [ho n (Ne.symm z)]
      omega
theorem vld_prog {nb : Nat} {F : Fl} {s : Nat} {v : Int32} {t : Bool} (hob : fOb F < nb) (hu : fUs F (fOb F) < 4) (hsr : ∀ p, p < 4 * nb → prg F p = true → fSr F p < fNx F) (p : Nat) : vld nb (fProg F s v t) p = (decide (p = fNp F) || (vld nb F p && decide (fNew nb F s ≠ some p))) := by
  have hpn := prg_np hu
  have hsc : fSc (fProg F s v t) p = if p = fNp F then s else fSc F p := rfl
  by_cases hp : p = fNp F
  · have : vld nb (fProg F s v t) p = true := by
      rw [vld_iff]
      refine ⟨by rw [prg_prog hu]; simp [hp], ?_⟩
      rw [hsc, if_pos hp, fNew_prog hob hu hsr, if_pos rfl, hp]
    rw [this]; simp [hp]
  · have e1 : vld nb (fProg F s v t) p = true ↔ (vld nb F p = true ∧ fNew nb F s ≠ some p) := by
      rw [vld_iff, vld_iff, prg_prog hu, hsc, if_neg hp, fNew_prog hob hu hsr]
      simp only [hp, decide_false, Bool.false_or]
      constructor
      · rintro ⟨h1, h2⟩
        split at h2
        · rename_i hh; exact absurd (Option.some.inj h2).symm hp
        · rename_i hh
          exact ⟨⟨h1, h2⟩, fun z => hh (fNew_some z).2.2.1⟩
      · rintro ⟨⟨h1, h2⟩, h3⟩
        refine ⟨h1, ?_⟩
        rw [if_neg (fun z => h3 (by rw [← z]; exact h2))]
        exact h2
    simp only [hp, decide_false, Bool.false_or]
    rw [Bool.eq_iff_iff, e1]
    simp
/-- valid pages of a block, when a page is programmed -/
theorem fVin_prog {nb : Nat} {F : Fl} {s : Nat} {v : Int32} {t : Bool} (hob : fOb F < nb) (hu : fUs F (fOb F) < 4) (hsr : ∀ p, p < 4 * nb → prg F p = true → fSr F p < fNx F) (b : Nat) : fVin nb (fProg F s v t) b + (if ∃ p, fNew nb F s = some p ∧ p / 4 = b then 1 else 0) = fVin nb F b + (if b = fOb F then 1 else 0) := by
  have hd := fNp_dm F hu
  have hpn := prg_np hu
  have hvn : vld nb F (fNp F) = false := by unfold vld; rw [hpn]; rfl
  -- first without the old page
  have h1 : cnt (fun q => vld nb F (4 * b + q) && decide (fNew nb F s ≠ some (4 * b + q))) 4 + (if ∃ p, fNew nb F s = some p ∧ p / 4 = b then 1 else 0) = fVin nb F b := by
    by_cases hx : ∃ p, fNew nb F s = some p ∧ p / 4 = b
    · rw [if_pos hx]
      obtain ⟨p, hp, hb⟩ := hx
      obtain ⟨a1, a2, a3, -⟩ := fNew_some hp
      have hv : vld nb F p = true := vld_iff.mpr ⟨a2, by rw [a3]; exact hp⟩
      refine (cnt_one (i := p % 4) ?_ ?_ ?_ (by omega)).symm
      · rw [show 4 * b + p % 4 = p by omega]; simp [hp]
      · rw [show 4 * b + p % 4 = p by omega]; exact hv
      · intro j hj
        have : ¬ (fNew nb F s = some (4 * b + j)) := by rw [hp]; intro z; have := Option.some.inj z; omega
        simp [this]
    · rw [if_neg hx]
      unfold fVin
      refine cnt_congr (fun q hq => ?_)
      have : ¬ (fNew nb F s = some (4 * b + q)) := fun z => hx ⟨_, z, by omega⟩
      simp [this]
  have h2 : fVin nb (fProg F s v t) b = cnt (fun q => vld nb F (4 * b + q) && decide (fNew nb F s ≠ some (4 * b + q))) 4 + (if b = fOb F then 1 else 0) := by
    unfold fVin
    by_cases hx : b = fOb F
    · rw [if_pos hx]
      refine cnt_one (i := fUs F (fOb F)) ?_ ?_ ?_ hu
      · rw [show 4 * b + fUs F (fOb F) = fNp F by unfold fNp; omega, hvn]; rfl
      · rw [vld_prog hob hu hsr, show 4 * b + fUs F (fOb F) = fNp F by unfold fNp; omega]; simp
      · intro j hj
        rw [vld_prog hob hu hsr]
        have : ¬ (4 * b + j = fNp F) := by unfold fNp; omega
        simp [this]
    · rw [if_neg hx]
      refine cnt_congr (fun q hq => ?_)
      rw [vld_prog hob hu hsr]
      have : ¬ (4 * b + q = fNp F) := by omega
      simp [this]
  omega
end
section
/-! PURE: erasing a block without valid pages; THE CLASS: program, erase -/
theorem prg_erase (F : Fl) (v p : Nat) : prg (fErase F v) p = (prg F p && decide (p / 4 ≠ v)) := by
  unfold prg
  rw [show fUs (fErase F v) = va_up (fUs F) v 0 from rfl]
  by_cases e : p / 4 = v
  · rw [e, va_up_self]; simp
  · rw [va_up_ne _ _ e]; simp [e]
theorem fNew_erase {nb v : Nat} {F : Fl} (h : ∀ p, p / 4 = v → vld nb F p = false) (q : Nat) : fNew nb (fErase F v) q = fNew nb F q := by
  have hpp : ∀ i, prg (fErase F v) i = true ↔ prg F i = true ∧ i / 4 ≠ v := fun i => by rw [prg_erase]; simp
  cases hn : fNew nb F q with
  | none =>
    rw [fNew_none] at hn ⊢
    exact fun i hi hp => hn i hi ((hpp i).mp hp).1
  | some p =>
    obtain ⟨a1, a2, a3, a4, a5⟩ := fNew_some hn
    have hv : p / 4 ≠ v := fun z => by
      have := h p z
      rw [vld_iff.mpr ⟨a2, by rw [a3]; exact hn⟩] at this; cases this
    exact fNew_of a1 ((hpp p).mpr ⟨a2, hv⟩) a3 (fun i hi hp => a4 i hi ((hpp i).mp hp).1) (fun i hi hp => a5 i hi ((hpp i).mp hp).1)
theorem vld_erase {nb v : Nat} {F : Fl} (h : ∀ p, p / 4 = v → vld nb F p = false) (p : Nat) : vld nb (fErase F v) p = vld nb F p := by
  unfold vld
  rw [fNew_erase h, prg_erase, show fSc (fErase F v) = fSc F from rfl]
  by_cases e : p / 4 = v
  · have := h p e
    unfold vld at this
    rw [this]; simp [e]
  · simp [e]
theorem fVin_erase {nb v : Nat} {F : Fl} (h : ∀ p, p / 4 = v → vld nb F p = false) (b : Nat) : fVin nb (fErase F v) b = fVin nb F b := by
  unfold fVin
  exact cnt_congr (fun q _ => vld_erase h _)
theorem cnt_0 {f : Nat → Bool} : ∀ {n : Nat}, cnt f n = 0 → ∀ i, i < n → f i = false
  | 0, _, i, hi => by omega
  | n + 1, h, i, hi => by
    unfold cnt at h
    rcases (show i < n ∨ i = n by omega) with z | z
    · exact cnt_0 (n := n) (by omega) i z
    · subst z
      cases hf : f i with
      | false => rfl
      | true => rw [hf] at h; simp at h
theorem fVin_0 {nb v : Nat} {F : Fl} (h : fVin nb F v = 0) : ∀ p, p / 4 = v → vld nb F p = false := by
  intro p hp
  have := cnt_0 h (p % 4) (by omega)
  rwa [show 4 * v + p % 4 = p by omega] at this
/-- the class holds the flash, its heap apart -/
def RB (ad π : Nat → Nat) (nb sp : Nat) (F : Fl) (S : SW) : Prop :=
  S.1 0 = nI sp ∧ S.1 3 = nI (fNx F) ∧ S.1 4 = nI (fOs F) ∧ S.1 5 = nI (fFu F) ∧ S.1 10 = nI (fBf F).length ∧ S.2.1 = (fOp F).map (fun b => ad (5 * b + 10)) ∧
  (∀ b, b < nb → S.2.2.1 1 b = nI (fEr F b) ∧ S.2.2.1 2 b = nI (fUs F b) ∧ S.2.2.1 3 b = nI (fVin nb F b)) ∧
  (∀ b q, b < nb → q < fUs F b → S.2.2.2.1 0 b q = nI (fSc F (4 * b + q)) ∧ S.2.2.2.1 1 b q = fVl F (4 * b + q) ∧ S.2.2.2.1 2 b q = nI (fSr F (4 * b + q)) ∧ S.2.2.2.1 3 b q = bI (fTr F (4 * b + q))) ∧
  (∀ q, q < 4 * (nb - 3) → S.2.2.2.2.1 q = oI (fNew nb F q)) ∧
  ((∀ i, i < 3 → π i < 3 ∧ S.2.2.2.2.2.2.1 i = some (ad (π i + 7))) ∧ (∀ i j, i < 3 → j < 3 → π i = π j → i = j) ∧ (∀ (k : Nat) (e : Nat × Int32 × Bool), (fBf F)[k]? = some e → S.2.2.2.2.2.2.2 0 (π k) = nI e.1 ∧ S.2.2.2.2.2.2.2 1 (π k) = e.2.1 ∧ S.2.2.2.2.2.2.2 2 (π k) = bI e.2.2))
/-- the free blocks but the open one -/
def fr (nb : Nat) (F : Fl) (b : Nat) : Prop := b < nb ∧ fUs F b = 0 ∧ fOp F ≠ some b
def RC (ad π : Nat → Nat) (nb sp : Nat) (F : Fl) (S : SW) : Prop := RB ad π nb sp F S ∧ HpOK ad nb (fEr F) S (fr nb F)
theorem RB.sp {ad π : Nat → Nat} {nb sp : Nat} {F : Fl} {S : SW} (h : RB ad π nb sp F S) : S.1 0 = nI sp := h.1
theorem RB.nx {ad π : Nat → Nat} {nb sp : Nat} {F : Fl} {S : SW} (h : RB ad π nb sp F S) : S.1 3 = nI (fNx F) := h.2.1
theorem RB.os {ad π : Nat → Nat} {nb sp : Nat} {F : Fl} {S : SW} (h : RB ad π nb sp F S) : S.1 4 = nI (fOs F) := h.2.2.1
theorem RB.fu {ad π : Nat → Nat} {nb sp : Nat} {F : Fl} {S : SW} (h : RB ad π nb sp F S) : S.1 5 = nI (fFu F) := h.2.2.2.1
theorem RB.bl {ad π : Nat → Nat} {nb sp : Nat} {F : Fl} {S : SW} (h : RB ad π nb sp F S) : S.1 10 = nI (fBf F).length := h.2.2.2.2.1
theorem RB.op {ad π : Nat → Nat} {nb sp : Nat} {F : Fl} {S : SW} (h : RB ad π nb sp F S) : S.2.1 = (fOp F).map (fun b => ad (5 * b + 10)) := h.2.2.2.2.2.1
theorem RB.bi {ad π : Nat → Nat} {nb sp : Nat} {F : Fl} {S : SW} (h : RB ad π nb sp F S) : ∀ b, b < nb → S.2.2.1 1 b = nI (fEr F b) ∧ S.2.2.1 2 b = nI (fUs F b) ∧ S.2.2.1 3 b = nI (fVin nb F b) := h.2.2.2.2.2.2.1
theorem RB.ba {ad π : Nat → Nat} {nb sp : Nat} {F : Fl} {S : SW} (h : RB ad π nb sp F S) : ∀ b q, b < nb → q < fUs F b → S.2.2.2.1 0 b q = nI (fSc F (4 * b + q)) ∧ S.2.2.2.1 1 b q = fVl F (4 * b + q) ∧ S.2.2.2.1 2 b q = nI (fSr F (4 * b + q)) ∧ S.2.2.2.1 3 b q = bI (fTr F (4 * b + q)) := h.2.2.2.2.2.2.2.1
theorem RB.pl {ad π : Nat → Nat} {nb sp : Nat} {F : Fl} {S : SW} (h : RB ad π nb sp F S) : ∀ q, q < 4 * (nb - 3) → S.2.2.2.2.1 q = oI (fNew nb F q) := h.2.2.2.2.2.2.2.2.1
theorem RB.bf {ad π : Nat → Nat} {nb sp : Nat} {F : Fl} {S : SW} (h : RB ad π nb sp F S) : (∀ i, i < 3 → π i < 3 ∧ S.2.2.2.2.2.2.1 i = some (ad (π i + 7))) ∧ (∀ i j, i < 3 → j < 3 → π i = π j → i = j) ∧ (∀ (k : Nat) (e : Nat × Int32 × Bool), (fBf F)[k]? = some e → S.2.2.2.2.2.2.2 0 (π k) = nI e.1 ∧ S.2.2.2.2.2.2.2 1 (π k) = e.2.1 ∧ S.2.2.2.2.2.2.2 2 (π k) = bI e.2.2) := h.2.2.2.2.2.2.2.2.2
theorem RB.erF {ad π : Nat → Nat} {nb sp : Nat} {F : Fl} {S : SW} (h : RB ad π nb sp F S) (hB : WB nb sp F) : ∀ b, b < nb → S.2.2.1 1 b = nI (fEr F b) ∧ fEr F b < 100000 := fun b hb => ⟨(h.bi b hb).1, by have := hB.er b hb; omega⟩
theorem RB.viF {ad π : Nat → Nat} {nb sp : Nat} {F : Fl} {S : SW} (h : RB ad π nb sp F S) : ∀ b, b < nb → S.2.2.1 3 b = nI (fVin nb F b) ∧ fVin nb F b ≤ 4 := fun b hb => ⟨(h.bi b hb).2.2, fVin_le nb F b⟩
theorem RB.opS {ad π : Nat → Nat} {nb sp : Nat} {F : Fl} {S : SW} (h : RB ad π nb sp F S) {b : Nat} (hop : fOp F = some b) : S.2.1 = some (ad (5 * b + 10)) := by rw [h.op, hop]; rfl
/-- the heap, where numbers and places stay -/
theorem HpOK.same {ad : Nat → Nat} {nb : Nat} {er er' : Nat → Nat} {S S' : SW} {P P' : Nat → Prop} (h : HpOK ad nb er S P) (h8 : S'.1 8 = S.1 8) (hH : S'.2.2.2.2.2.1 = S.2.2.2.2.2.1) (hP : ∀ b, P' b ↔ P b) (he : ∀ b, P b → er' b = er b) : HpOK ad nb er' S' P' := by
  obtain ⟨hs, hp, a1, ⟨b1, b2, b3, b4⟩, a3⟩ := h
  have hk : ∀ i, i < hs → ky er' (hp i) = ky er (hp i) := fun i hi => by unfold ky; rw [he _ ((a3 _).mpr ⟨i, hi, rfl⟩)]
  exact ⟨hs, hp, by rw [h8]; exact a1, ⟨b1, by rw [hH]; exact b2, b3, fun i h0 hi => by rw [hk i hi, hk _ (by omega)]; exact b4 i h0 hi⟩, fun b => by rw [hP b]; exact a3 b⟩
section WP
variable {l : Launch} {D : va_G} {cs : Nat → ClassId} {ad π : Nat → Nat} {nb sp : Nat} {F : Fl} {S : SW}
/-- operate, over the whole picture -/
theorem RC.oper (hR : RC ad π nb sp F S) {WI : Nat → Int32} (h4 : WI 4 = nI (fOs (sOper F).2)) (h5 : WI 5 = nI (fFu (sOper F).2)) (hk : ∀ k, k ≠ 4 → k ≠ 5 → WI k = S.1 k) : RC ad π nb sp (sOper F).2 (WI, S.2) := by
  obtain ⟨hB, hH⟩ := hR
  have e : ∃ os fu, (sOper F).2 = mkF (fUs F) (fEr F) (fSc F) (fVl F) (fSr F) (fTr F) (fNx F) (fOp F) os fu (fBf F) := by
    unfold sOper; split
    · exact ⟨_, _, rfl⟩
    · exact ⟨_, _, rfl⟩
  obtain ⟨os, fu, e⟩ := e
  rw [e] at h4 h5 ⊢
  refine ⟨⟨by show WI 0 = _; rw [hk 0 (by decide) (by decide)]; exact hB.sp, by show WI 3 = _; rw [hk 3 (by decide) (by decide)]; exact hB.nx, h4, h5, by show WI 10 = _; rw [hk 10 (by decide) (by decide)]; exact hB.bl, hB.op, fun b hb => ?_, hB.ba, fun q hq => ?_, hB.bf⟩, hH.same (by show WI 8 = _; rw [hk 8 (by decide) (by decide)]) rfl (fun b => Iff.rfl) (fun _ _ => rfl)⟩
  · have := hB.bi b hb
    exact ⟨this.1, this.2.1, this.2.2.trans (congrArg nI (fVin_congr rfl rfl rfl b))⟩
  · exact (hB.pl q hq).trans (congrArg oI (fNew_congr rfl rfl rfl q))
theorem c_W_program (hG : Geo ad (5 * nb + 10)) (hR : RC ad π nb sp F S) (hB : WB nb sp F) {b : Nat} (hop : fOp F = some b) (hu : fUs F b < 4) {q : Nat} (hq : q < 4 * (nb - 3)) (v : Int32) (t : Bool) : RWi l D cs ad (5 * nb + 10) (eC ad cs nb) y_W_program b_W_program 5 (some .boolean) 1 [.ref (ad 0), .int (nI q), .int v, .int (bI t)] S (fun r u => r = bI (sProg F q v t).1 ∧ RC ad π nb sp (sProg F q v t).2 u) := by
  refine MC.intro (by decide) (Nat.le_of_ble_eq_true rfl) ?_
  intro p e s m below meth c C hr hlk hnm hH ls hl
  have hI : In D ad (5 * nb + 10) s (eC ad cs nb S) s.heap [] := ⟨hG, hH, va_S.rf⟩
  have hx := C.1.1
  have hb := C.1.2.1
  have h1 := hB.nb
  have hbn := hB.op b hop
  have hbi := hR.1.bi b hbn
  have ho := hR.1.opS hop
  refine lv_aload_n hx hb d_W_program_0 rfl (lv_at hl 0 rfl) ?_
  refine w_geto C hI k_fl_W_62 (ho) d_W_program_1 ?_
  refine lv_ifnull hx hb d_W_program_4 ?_
  refine lv_aload_n hx hb d_W_program_7 rfl (lv_at hl 0 rfl) ?_
  refine w_geto C hI k_fl_W_62 (ho) d_W_program_8 ?_
  refine bc_ROi C hI (c_B_isFull hG hbn hbi.2.1 (by omega)) yv_B_isFull k_ml_W_66 rfl (by omega) (by decide) rfl hl.1 rfl (Nat.le_of_ble_eq_true rfl) d_W_program_11 ⟨Nat.le_refl _, Nat.le_refl _⟩ (fun r hp => ?_)
  subst hp
  rw [show (fUs F b == 4) = false by simp; omega]
  refine bb_ne (tgt := 24) C d_W_program_14 (by decide) (fun k1 => ?_) (fun k1 => ?_)
  · cases k1
  · refine lv_aload_n hx hb d_W_program_17 rfl (lv_at hl 0 rfl) ?_
    refine wc_RWi C hI (c_W_operate hG hR.1.os hR.1.fu hB.fu) yv_W_operate k_ml_W_70 rfl (by decide) rfl hl.1 rfl (Nat.le_of_ble_eq_true rfl) d_W_program_18 ⟨Nat.le_refl _, Nat.le_refl _⟩ (fun r S1 H locs hp hI => ?_)
    obtain ⟨rfl, WI, rfl, hw4, hw5, hwk⟩ := hp
    have hR1 := hR.oper hw4 hw5 hwk
    refine bb_ne (tgt := 26) C d_W_program_21 (by decide) (fun k2 => ?_) (fun k2 => ?_)
    · have hfu : ¬ fFu F = 1 := by intro z; rw [sOper, if_pos z] at k2; cases k2
      have hres : sProg F q v t = (true, fProg (fOper F) q v t) := by rw [sProg, if_neg hfu]
      rw [sOper, if_neg hfu] at hR1
      obtain ⟨hRB, hRH⟩ := hR1
      have hob : fOb (fOper F) = b := fOb_some (F := fOper F) hop
      have hnp : fNp (fOper F) = 4 * b + fUs F b := by unfold fNp; rw [hob]; rfl
      have hu2 : fUs (fOper F) (fOb (fOper F)) < 4 := by rw [hob]; exact hu
      have hob2 : fOb (fOper F) < nb := by rw [hob]; exact hbn
      have hNew := fNew_prog (nb := nb) (s := q) (v := v) (t := t) hob2 hu2 hB.sr
      have hVin := fVin_prog (nb := nb) (s := q) (v := v) (t := t) hob2 hu2 hB.sr
      rw [hob] at hVin
      rw [hnp] at hNew
      obtain ⟨I0, O0, BI0, BA0, PL0, HP0, BF0, EI0⟩ := S
      refine lv_aload_n hx hb d_W_program_26 rfl (lv_at hl 0 rfl) ?_
      refine w_geto C hI k_fl_W_62 (ho) d_W_program_27 ?_
      refine lv_dup hx hb d_W_program_30 rfl ?_
      refine bN_geti C hI 2 (by decide) (by omega) k_fn_W_73 (hbi.2.1) d_W_program_31 ?_
      refine lv_dup_x1 hx hb d_W_program_34 rfl rfl ?_
      refine lv_iconst (v := nI 1) hx hb d_W_program_35 (by decide) ?_
      refine an_add C d_W_program_36 ?_
      refine bN_puti C hI 2 (by omega) (by omega) k_fn_W_73 d_W_program_37 (fun H locs B1 hB1 hI => ?_)
      refine lv_istore (lv' := [(4, _), (0, _), (1, _), (2, _), (3, _)]) hx hb d_W_program_40 hl (by decide) rfl (fun ls hl => ?_)
      refine lv_aload_n hx hb d_W_program_42 rfl (lv_at hl 1 rfl) ?_
      refine w_geto C hI k_fl_W_62 (ho) d_W_program_43 ?_
      refine bN_getr C hI 0 (by decide) (by omega) k_fn_W_76 d_W_program_46 ?_
      refine lv_iload hx hb d_W_program_49 (lv_at hl 0 rfl) ?_
      refine lv_iload_n hx hb d_W_program_51 rfl (lv_at hl 2 rfl) ?_
      refine lv_i2b hx hb d_W_program_52 (nI_i2b (by omega)) ?_
      refine bs_ast C hI hbn (by omega) (nI_b8 (by omega)) d_W_program_53 (fun H locs A1 hA1 hI => ?_)
      refine lv_aload_n hx hb d_W_program_54 rfl (lv_at hl 1 rfl) ?_
      refine w_geto C hI k_fl_W_62 (ho) d_W_program_55 ?_
      refine bN_getr C hI 1 (by decide) (by omega) k_fn_W_79 d_W_program_58 ?_
      refine lv_iload hx hb d_W_program_61 (lv_at hl 0 rfl) ?_
      refine lv_iload_n hx hb d_W_program_63 rfl (lv_at hl 3 rfl) ?_
      refine bv_ast (x := 0) C hI hbn (by omega) d_W_program_64 (fun H locs A2 hA2 hI => ?_)
      refine lv_aload_n hx hb d_W_program_65 rfl (lv_at hl 1 rfl) ?_
      refine w_geto C hI k_fl_W_62 (ho) d_W_program_66 ?_
      refine bN_getr C hI 3 (by decide) (by omega) k_fn_W_83 d_W_program_69 ?_
      refine lv_iload hx hb d_W_program_72 (lv_at hl 0 rfl) ?_
      refine lv_iload_n hx hb d_W_program_74 rfl (lv_at hl 4 rfl) ?_
      refine bt_ast C hI hbn (by omega) (bI_vn t) d_W_program_75 (fun H locs A3 hA3 hI => ?_)
      refine lv_aload_n hx hb d_W_program_76 rfl (lv_at hl 1 rfl) ?_
      refine w_geto C hI k_fl_W_62 (ho) d_W_program_77 ?_
      refine bN_getr C hI 2 (by decide) (by omega) k_fn_W_87 d_W_program_80 ?_
      refine lv_iload hx hb d_W_program_83 (lv_at hl 0 rfl) ?_
      refine lv_aload_n hx hb d_W_program_85 rfl (lv_at hl 1 rfl) ?_
      refine lv_dup hx hb d_W_program_86 rfl ?_
      refine w_geti C hI 3 (by decide) k_fl_W_90 rfl rfl (hRB.nx) d_W_program_87 ?_
      refine lv_dup_x1 hx hb d_W_program_90 rfl rfl ?_
      refine lv_iconst (v := nI 1) hx hb d_W_program_91 (by decide) ?_
      refine an_add C d_W_program_92 ?_
      refine w_puti C hI 3 (by omega) k_fl_W_90 rfl rfl rfl rfl d_W_program_93 (fun H locs W2 hW2 hI => ?_)
      refine br_ast (x := 0) C hI hbn (by omega) d_W_program_96 (fun H locs A4 hA4 hI => ?_)
      refine lv_aload_n hx hb d_W_program_97 rfl (lv_at hl 1 rfl) ?_
      refine w_getr C hI 2 (by decide) k_fl_W_42 rfl 2 rfl d_W_program_98 ?_
      refine lv_iload_n hx hb d_W_program_101 rfl (lv_at hl 2 rfl) ?_
      have hplq : PL0 q = oI (fNew nb (fOper F) q) := hRB.pl q hq
      refine w_pl C hI (by omega) (by omega) hplq d_W_program_102 ?_
      refine lv_iconst (v := -1) hx hb d_W_program_103 (by decide) ?_
      -- the way on, with the valid pages without the old one
      refine W_atH (pc2 := 129) (st2 := []) (fun H locs ls => ∃ B2 : Nat → Nat → Int32, (∀ k, k ≠ 3 → B2 k = B1 k) ∧ (∀ b', b' < nb → B2 3 b' = nI (fVin nb (fOper F) b' - (if ∃ p, fNew nb (fOper F) q = some p ∧ p / 4 = b' then 1 else 0))) ∧ In D ad (5 * nb + 10) s (eC ad cs nb (W2, O0, B2, A4, PL0, HP0, BF0, EI0)) H locs ∧ lv_has ls 5 [(0, .ref (ad 0)), (1, .int (nI q)), (4, .int (nI (fUs F b)))]) ?_ (fun J => ?_)
      · intro H locs ls ⟨B2, hb2, hb3, hI, hl⟩
        refine lv_aload_n hx hb d_W_program_129 rfl (lv_at hl 0 rfl) ?_
        refine w_getr C hI 2 (by decide) k_fl_W_42 rfl 2 rfl d_W_program_130 ?_
        refine lv_iload_n hx hb d_W_program_133 rfl (lv_at hl 1 rfl) ?_
        refine lv_aload_n hx hb d_W_program_134 rfl (lv_at hl 0 rfl) ?_
        refine w_geto C hI k_fl_W_62 (ho) d_W_program_135 ?_
        refine lv_iload hx hb d_W_program_138 (lv_at hl 2 rfl) ?_
        refine bc_ROi C hI (c_B_place hG (q := fUs F b) hbn) yv_B_place k_ml_W_96 rfl (by omega) (by decide) rfl hl.1 rfl (Nat.le_of_ble_eq_true rfl) d_W_program_140 ⟨Nat.le_refl _, Nat.le_refl _⟩ (fun r hp => ?_)
        subst hp
        refine lv_i2b hx hb d_W_program_143 (nI_i2b (by omega)) ?_
        refine w_plp C hI (by omega) (by omega) (nI_b8 (by omega)) d_W_program_144 (fun H locs P2 hP2 hI => ?_)
        refine lv_aload_n hx hb d_W_program_145 rfl (lv_at hl 0 rfl) ?_
        refine w_geto C hI k_fl_W_62 (ho) d_W_program_146 ?_
        refine lv_dup hx hb d_W_program_149 rfl ?_
        refine bN_geti C hI 3 (by decide) (by omega) k_fn_W_93 (hb3 b hbn) d_W_program_150 ?_
        refine lv_iconst (v := nI 1) hx hb d_W_program_153 (by decide) ?_
        refine an_add C d_W_program_154 ?_
        refine bN_puti C hI 3 (by omega) (by omega) k_fn_W_93 d_W_program_155 (fun H locs B3 hB3 hI => ?_)
        refine lv_iconst (v := 1) hx hb d_W_program_158 (by decide) ?_
        have hge : ∀ b', (if ∃ p, fNew nb (fOper F) q = some p ∧ p / 4 = b' then 1 else 0) ≤ fVin nb (fOper F) b' + (if b' = b then 1 else 0) ∧ ((if ∃ p, fNew nb (fOper F) q = some p ∧ p / 4 = b' then 1 else 0) ≤ fVin nb (fOper F) b') := by
          intro b'
          have h9 := hVin b'
          refine ⟨by omega, ?_⟩
          split
          · rename_i hx
            obtain ⟨p9, hp9, hb9⟩ := hx
            obtain ⟨a1, a2, a3, -⟩ := fNew_some hp9
            rcases Nat.eq_zero_or_pos (fVin nb (fOper F) b') with z | z
            · have := fVin_0 z p9 hb9
              rw [vld_iff.mpr ⟨a2, by rw [a3]; exact hp9⟩] at this; cases this
            · exact z
          · exact Nat.zero_le _
        refine rt_RWz C hI hr hlk rfl ⟨by rw [hres]; rfl, ?_⟩ d_W_program_159
        rw [hres]
        refine ⟨⟨by show W2 0 = _; rw [hW2]; exact hRB.sp, by show W2 3 = _; rw [hW2]; rfl, by show W2 4 = _; rw [hW2]; exact hRB.os, by show W2 5 = _; rw [hW2]; exact hRB.fu, by show W2 10 = _; rw [hW2]; exact hRB.bl, hRB.op, fun b' hb' => ?_, fun b' q' hb' hq' => ?_, fun q' hq' => ?_, hRB.bf⟩, hRH.same (by show W2 8 = _; rw [hW2]; rfl) rfl (fun b' => ?_) (fun _ _ => rfl)⟩
        · have hbi' := hRB.bi b' hb'
          have e1 : B3 1 = BI0 1 := by rw [hB3]; show va_up B2 3 _ 1 = _; rw [va_up_ne _ _ (by decide), hb2 1 (by decide), hB1]; rfl
          have e2 : B3 2 = va_up (BI0 2) b (nI (fUs F b + 1)) := by rw [hB3]; show va_up B2 3 _ 2 = _; rw [va_up_ne _ _ (by decide), hb2 2 (by decide), hB1]; rfl
          have e3 : B3 3 = va_up (B2 3) b (nI (fVin nb (fOper F) b - (if ∃ p, fNew nb (fOper F) q = some p ∧ p / 4 = b then 1 else 0) + 1)) := by rw [hB3]; rfl
          show B3 1 b' = _ ∧ B3 2 b' = nI (va_up (fUs (fOper F)) (fOb (fOper F)) (fUs (fOper F) (fOb (fOper F)) + 1) b') ∧ B3 3 b' = _
          rw [e1, e2, e3, hob]
          have h9 := hVin b'
          have h10 := hge b'
          by_cases z : b' = b
          · subst z
            rw [va_up_self, va_up_self, va_up_self]
            rw [if_pos rfl] at h9
            exact ⟨hbi'.1, rfl, by
              show nI (_ + 1) = nI (fVin nb (fProg (fOper F) q v t) b')
              generalize (if ∃ p, fNew nb (fOper F) q = some p ∧ p / 4 = b' then 1 else 0 : Nat) = z9 at h9 h10 ⊢
              congr 1; omega⟩
          · rw [va_up_ne _ _ z, va_up_ne _ _ z, va_up_ne _ _ z, hb3 b' hb']
            rw [if_neg z] at h9
            exact ⟨hbi'.1, hbi'.2.1, by
              show nI _ = nI (fVin nb (fProg (fOper F) q v t) b')
              generalize (if ∃ p, fNew nb (fOper F) q = some p ∧ p / 4 = b' then 1 else 0 : Nat) = z9 at h9 h10 ⊢
              congr 1; omega⟩
        · have hq'' : q' < va_up (fUs F) b (fUs F b + 1) b' := by rw [← hob]; exact hq'
          have f0 : A4 0 = up2 (BA0 0) b (fUs F b) (nI q) := by rw [hA4, hA3, hA2, hA1]; rfl
          have f1 : A4 1 = up2 (BA0 1) b (fUs F b) v := by rw [hA4, hA3, hA2, hA1]; rfl
          have f3 : A4 3 = up2 (BA0 3) b (fUs F b) (bI t) := by rw [hA4, hA3, hA2, hA1]; rfl
          have f2 : A4 2 = up2 (BA0 2) b (fUs F b) (nI (fNx F)) := by rw [hA4, hA3, hA2, hA1]; rfl
          show A4 0 b' q' = nI (va_up (fSc F) (fNp (fOper F)) q (4 * b' + q')) ∧ A4 1 b' q' = va_up (fVl F) (fNp (fOper F)) v (4 * b' + q') ∧ A4 2 b' q' = nI (va_up (fSr F) (fNp (fOper F)) (fNx F) (4 * b' + q')) ∧ A4 3 b' q' = bI (va_up (fTr F) (fNp (fOper F)) t (4 * b' + q'))
          rw [f0, f1, f2, f3, hnp]
          by_cases z : b' = b
          · subst z
            rw [va_up_self] at hq''
            by_cases z2 : q' = fUs F b'
            · subst z2
              simp [up2, va_up]
            · have hba := hRB.ba b' q' hb' (show q' < fUs F b' by omega)
              have z3 : ¬ (4 * b' + q' = 4 * b' + fUs F b') := by omega
              simp only [up2, va_up, if_true, z2, z3, if_false]
              exact hba
          · rw [va_up_ne _ _ z] at hq''
            have hu9 := hB.us b' hb'
            have hba := hRB.ba b' q' hb' hq''
            have z3 : ¬ (4 * b' + q' = 4 * b + fUs F b) := by omega
            simp only [up2, va_up, z, z3, if_false]
            exact hba
        · show P2 q' = _
          rw [hNew q', hP2]
          by_cases z : q' = q
          · subst z; rw [va_up_self, if_pos rfl]; rfl
          · rw [va_up_ne _ _ z, if_neg z]; exact hRB.pl q' hq'
        · show (b' < nb ∧ va_up (fUs F) (fOb (fOper F)) (fUs F (fOb (fOper F)) + 1) b' = 0 ∧ fOp F ≠ some b') ↔ (b' < nb ∧ fUs F b' = 0 ∧ fOp F ≠ some b')
          rw [hob, hop]
          by_cases z : b' = b
          · subst z; simp
          · rw [va_up_ne _ _ z]
      · refine bo_eq (tgt := 129) C (fun j hj => by have := (bst_lt hj).1; omega) d_W_program_104 (by decide) (fun k3 => ?_) (fun j104 k3 => ?_)
        · exact J _ _ _ ⟨B1, fun _ _ => rfl, fun b' hb' => by
            rw [if_neg (by rintro ⟨p9, hp9, -⟩; rw [k3] at hp9; cases hp9)]
            have : B1 3 = BI0 3 := by rw [hB1]; rfl
            rw [this]; exact (hRB.bi b' hb').2.2, hI, lv_sub hl [1, 2, 0] rfl⟩
        · have hj := (bst_lt k3).1
          have hjb : j104 / 4 < nb := by omega
          have e1 : B1 3 = BI0 3 := by rw [hB1]; rfl
          have hpos : 0 < fVin nb (fOper F) (j104 / 4) := by
            obtain ⟨a1, a2, a3, -⟩ := fNew_some k3
            rcases Nat.eq_zero_or_pos (fVin nb (fOper F) (j104 / 4)) with z | z
            · have := fVin_0 z j104 rfl
              rw [vld_iff.mpr ⟨a2, by rw [a3]; exact k3⟩] at this; cases this
            · exact z
          refine lv_aload_n hx hb d_W_program_107 rfl (lv_at hl 1 rfl) ?_
          refine w_getr C hI 1 (by decide) k_fl_W_35 rfl 1 rfl d_W_program_108 ?_
          refine lv_aload_n hx hb d_W_program_111 rfl (lv_at hl 1 rfl) ?_
          refine w_getr C hI 2 (by decide) k_fl_W_42 rfl 2 rfl d_W_program_112 ?_
          refine lv_iload_n hx hb d_W_program_115 rfl (lv_at hl 2 rfl) ?_
          refine w_pl C hI (by omega) (by omega) (show PL0 q = nI j104 by rw [hplq, k3]; rfl) d_W_program_116 ?_
          refine lv_iconst (v := nI 4) hx hb d_W_program_117 (by decide) ?_
          refine an_div C (by omega) (by omega) (by omega) d_W_program_118 ?_
          refine w_blk C hI hjb (by omega) d_W_program_119 ?_
          refine lv_dup hx hb d_W_program_120 rfl ?_
          refine bN_geti C hI 3 (by decide) (by omega) k_fn_W_93 (show B1 3 (j104 / 4) = nI (fVin nb (fOper F) (j104 / 4)) by rw [e1]; exact (hRB.bi _ hjb).2.2) d_W_program_121 ?_
          refine lv_iconst (v := nI 1) hx hb d_W_program_124 (by decide) ?_
          refine an_sub C (by omega) d_W_program_125 ?_
          refine bN_puti C hI 3 (by omega) (by omega) k_fn_W_93 d_W_program_126 (fun H locs B2 hB2 hI => ?_)
          refine J _ _ _ ⟨B2, fun k hk => by rw [hB2, up2, va_up_ne _ _ hk], fun b' hb' => ?_, hI, lv_sub hl [1, 2, 0] rfl⟩
          rw [hB2]
          show va_up (B1 3) (j104 / 4) _ b' = _
          by_cases z : b' = j104 / 4
          · rw [z, va_up_self, if_pos ⟨j104, k3, rfl⟩]
          · rw [va_up_ne _ _ z, if_neg (by rintro ⟨p9, hp9, hb9⟩; rw [k3] at hp9; cases hp9; exact z hb9.symm), e1]
            exact (hRB.bi b' hb').2.2
    · have hfu : fFu F = 1 := by
        rcases Decidable.em (fFu F = 1) with z | z
        · exact z
        · rw [sOper, if_neg z] at k2; cases k2
      have hres : sProg F q v t = (false, fBlow F) := by rw [sProg, if_pos hfu]
      rw [sOper, if_pos hfu] at hR1
      refine lv_iconst (v := 0) hx hb d_W_program_24 (by decide) ?_
      exact rt_RWz C hI hr hlk rfl ⟨by rw [hres]; rfl, by rw [hres]; exact hR1⟩ d_W_program_25
end WP
end
section
/-! THE CLASS: erase, collect -/
def sEr (F : Fl) (v : Nat) : Bool × Fl := if fFu F = 1 then (false, fBlow F) else (true, fErase (fOper F) v)
theorem good_list {ws : List Cond} (h : ∀ w ∈ ws, w ∈ tbG) : GoodIn tbG ws := fun w hw => ⟨h w hw, tb_good (h w hw)⟩
section IFC
variable {p : Program} {l : Launch} {e : Env} {R : Room} {s : State} {m : MethodId} {args : Array Value} {below : List Frame} {meth : Method} {c : Code} {H : Heap} {locs : List Loc} {cells slots : Nat} {Q : State → Prop}
variable {cc : ByteArray} {nL pc : Nat} {ls : Array Slot} {rest st : List Value} {D : va_G} {cs : Nat → ClassId} {ad : Nat → Nat} {nb : Nat} {S : SW} {d : Nat} {As : List Value}
theorem wi_G {post : Int32 → Prop} (C : Cc p m c cc nL s args R_W D cs) (hI : In D ad (5 * nb + 10) s (eC ad cs nb S) H locs) (hM : ROi l D cs ad (5 * nb + 10) (eC ad cs nb S) y_G_prefers b_G_prefers 3 (some .boolean) d (.ref (ad 5) :: As) post) (hR : d + 1 ≤ R.frames ∧ 8 + (3 + 11) + 27 * d ≤ R.locals) (hn : As.length = 2) (hls : ls.size = nL) (hst : st = As.reverse ++ .ref (ad 5) :: rest) (hW : (rest.map fun v => v.category).sum ≤ 8) (hdg : decode cc pc = .ok (.invokeinterface 107 3, 5)) (hf : cells ≤ R.cells ∧ slots ≤ R.slots)
    (kk : ∀ r : Int32, post r → W p l e R s m args below meth c H locs cells slots Q (F0 m (pc + 5) ls (.int r :: rest))) : W p l e R s m args below meth c H locs cells slots Q (F0 m pc ls st) :=
  va_csFi (va_runF (C := R_G) (cC := D.1 2) (C.2.2.1 2 _ rfl).2 C.1 hM (va_cwF 2 (C.2.1.hts args) (good_list (fun w hw => by
    simp only [va_wsF, List.cons_append, List.nil_append, List.mem_cons, List.not_mem_nil, or_false] at hw
    rcases hw with rfl | rfl | rfl | rfl | rfl
    · exact k_ml_W_107
    · exact k_se_G_prefers
    · exact k_im_G_prefers
    · exact k_ini_G
    · exact k_cd_G_prefers)) rfl rfl rfl C.2.1.2.2.2.2.1 (by decide +kernel) hR) ⟨PcX.blind, x_recv C hI (j := 5) (ci := 2) (r := (R_G, F_G, 0)) (by omega) rfl rfl, PcX.at C.2.1 C.2.2 hI.2.1⟩ rfl hn hls hst (lv_room hW) hdg hf) kk
theorem wi_V {post : Int32 → Prop} (C : Cc p m c cc nL s args R_W D cs) (hI : In D ad (5 * nb + 10) s (eC ad cs nb S) H locs) (hM : ROi l D cs ad (5 * nb + 10) (eC ad cs nb S) y_V_prefers b_V_prefers 3 (some .boolean) d (.ref (ad 6) :: As) post) (hR : d + 1 ≤ R.frames ∧ 8 + (3 + 11) + 27 * d ≤ R.locals) (hn : As.length = 2) (hls : ls.size = nL) (hst : st = As.reverse ++ .ref (ad 6) :: rest) (hW : (rest.map fun v => v.category).sum ≤ 8) (hdg : decode cc pc = .ok (.invokeinterface 107 3, 5)) (hf : cells ≤ R.cells ∧ slots ≤ R.slots)
    (kk : ∀ r : Int32, post r → W p l e R s m args below meth c H locs cells slots Q (F0 m (pc + 5) ls (.int r :: rest))) : W p l e R s m args below meth c H locs cells slots Q (F0 m pc ls st) :=
  va_csFi (va_runF (C := R_V) (cC := D.1 3) (C.2.2.1 3 _ rfl).2 C.1 hM (va_cwF 2 (C.2.1.hts args) (good_list (fun w hw => by
    simp only [va_wsF, List.cons_append, List.nil_append, List.mem_cons, List.not_mem_nil, or_false] at hw
    rcases hw with rfl | rfl | rfl | rfl | rfl
    · exact k_ml_W_107
    · exact k_se_V_prefers
    · exact k_im_V_prefers
    · exact k_ini_V
    · exact k_cd_V_prefers)) rfl rfl rfl C.2.1.2.2.2.2.2 (by decide +kernel) hR) ⟨PcX.blind, x_recv C hI (j := 6) (ci := 3) (r := (R_V, F_V, 0)) (by omega) rfl rfl, PcX.at C.2.1 C.2.2 hI.2.1⟩ rfl hn hls hst (lv_room hW) hdg hf) kk
end IFC
section WC
variable {l : Launch} {D : va_G} {cs : Nat → ClassId} {ad π : Nat → Nat} {nb sp : Nat} {F : Fl} {S : SW}
theorem c_W_erase (hG : Geo ad (5 * nb + 10)) (hR : RC ad π nb sp F S) (hB : WB nb sp F) {v : Nat} (hv : v < nb) (hu : fUs F v ≠ 0) (hz : fVin nb F v = 0) (hop : fOp F ≠ some v) : RWi l D cs ad (5 * nb + 10) (eC ad cs nb) y_W_erase b_W_erase 2 (some .boolean) 3 [.ref (ad 0), .ref (ad (5 * v + 10))] S (fun r u => r = bI (sEr F v).1 ∧ RC ad π nb sp (sEr F v).2 u) := by
  refine MC.intro (by decide) (Nat.le_of_ble_eq_true rfl) ?_
  intro p e s m below meth c C hr hlk hnm hH ls hl
  have hI : In D ad (5 * nb + 10) s (eC ad cs nb S) s.heap [] := ⟨hG, hH, va_S.rf⟩
  have hx := C.1.1
  have hb := C.1.2.1
  have h1 := hB.nb
  have hev := hB.er v hv
  refine lv_aload_n hx hb d_W_erase_0 rfl (lv_at hl 0 rfl) ?_
  refine wc_RWi C hI (c_W_operate hG hR.1.os hR.1.fu hB.fu) yv_W_operate k_ml_W_70 rfl (by decide) rfl hl.1 rfl (Nat.le_of_ble_eq_true rfl) d_W_erase_1 ⟨Nat.le_refl _, Nat.le_refl _⟩ (fun r S1 H locs hp hI => ?_)
  obtain ⟨rfl, WI, rfl, hw4, hw5, hwk⟩ := hp
  have hR1 := hR.oper hw4 hw5 hwk
  refine bb_ne (tgt := 9) C d_W_erase_4 (by decide) (fun k2 => ?_) (fun k2 => ?_)
  · have hfu : ¬ fFu F = 1 := by intro z; rw [sOper, if_pos z] at k2; cases k2
    have hres : sEr F v = (true, fErase (fOper F) v) := by rw [sEr, if_neg hfu]
    rw [sOper, if_neg hfu] at hR1
    obtain ⟨hRB, hRH⟩ := hR1
    obtain ⟨I0, O0, BI0, BA0, PL0, HP0, BF0, EI0⟩ := S
    have hbv := hRB.bi v hv
    have hzz : ∀ p, p / 4 = v → vld nb (fOper F) p = false := fun p hp => by rw [vld_congr (F := fOper F) (G := F) rfl rfl rfl]; exact fVin_0 hz p hp
    refine lv_aload_n hx hb d_W_erase_9 rfl (lv_at hl 1 rfl) ?_
    refine lv_iconst (v := nI 0) hx hb d_W_erase_10 (by decide) ?_
    refine bN_puti C hI 2 (by omega) (by omega) k_fn_W_73 d_W_erase_11 (fun H locs B1 hB1 hI => ?_)
    refine lv_aload_n hx hb d_W_erase_14 rfl (lv_at hl 1 rfl) ?_
    refine lv_iconst (v := nI 0) hx hb d_W_erase_15 (by decide) ?_
    refine bN_puti C hI 3 (by omega) (by omega) k_fn_W_93 d_W_erase_16 (fun H locs B2 hB2 hI => ?_)
    refine lv_aload_n hx hb d_W_erase_19 rfl (lv_at hl 1 rfl) ?_
    refine lv_dup hx hb d_W_erase_20 rfl ?_
    refine bN_geti C hI 1 (by decide) (by omega) k_fn_W_100 (show B2 1 v = nI (fEr F v) by rw [hB2, hB1]; exact hbv.1) d_W_erase_21 ?_
    refine lv_iconst (v := nI 1) hx hb d_W_erase_24 (by decide) ?_
    refine an_add C d_W_erase_25 ?_
    refine bN_puti C hI 1 (by omega) (by omega) k_fn_W_100 d_W_erase_26 (fun H locs B3 hB3 hI => ?_)
    refine lv_aload_n hx hb d_W_erase_29 rfl (lv_at hl 0 rfl) ?_
    refine lv_aload_n hx hb d_W_erase_30 rfl (lv_at hl 1 rfl) ?_
    have e1 : ∀ b, b < nb → B3 1 b = nI (va_up (fEr F) v (fEr F v + 1) b) ∧ va_up (fEr F) v (fEr F v + 1) b < 100000 := fun b hb9 => by
      have t1 : B3 1 = va_up (BI0 1) v (nI (fEr F v + 1)) := by rw [hB3, hB2, hB1]; rfl
      rw [t1]
      by_cases z : b = v
      · subst z; rw [va_up_self, va_up_self]; exact ⟨rfl, by omega⟩
      · rw [va_up_ne _ _ z, va_up_ne _ _ z]
        exact ⟨(hRB.bi b hb9).1, by have := hB.er b hb9; omega⟩
    have hH2 : HpOK ad nb (va_up (fEr F) v (fEr F v + 1)) (WI, O0, B3, BA0, PL0, HP0, BF0, EI0) (fr nb (fOper F)) := hRH.same rfl rfl (fun b => Iff.rfl) (fun b hb9 => by
      have : b ≠ v := fun z => by subst z; exact hu hb9.2.1
      rw [va_up_ne _ _ this]; rfl)
    refine wc_RWv C hI (c_W_push (S := (WI, O0, B3, BA0, PL0, HP0, BF0, EI0)) hG e1 h1.2 hH2 hv (fun z => hu z.2.1)) yv_W_push k_ml_W_103 rfl (by decide) rfl hl.1 rfl (Nat.le_of_ble_eq_true rfl) d_W_erase_31 ⟨Nat.le_refl _, Nat.le_refl _⟩ (fun S2 H locs hp hI => ?_)
    obtain ⟨WJ, HQ, rfl, hwj, hH3⟩ := hp
    refine lv_iconst (v := 1) hx hb d_W_erase_34 (by decide) ?_
    refine rt_RWz C hI hr hlk rfl ⟨by rw [hres]; rfl, ?_⟩ d_W_erase_35
    rw [hres]
    refine ⟨⟨by show WJ 0 = _; rw [hwj 0 (by decide)]; exact hRB.sp, by show WJ 3 = _; rw [hwj 3 (by decide)]; exact hRB.nx, by show WJ 4 = _; rw [hwj 4 (by decide)]; exact hRB.os, by show WJ 5 = _; rw [hwj 5 (by decide)]; exact hRB.fu, by show WJ 10 = _; rw [hwj 10 (by decide)]; exact hRB.bl, hRB.op, fun b hb9 => ?_, fun b q hb9 hq => ?_, fun q hq => ?_, hRB.bf⟩, ?_⟩
    · have t2 : B3 2 = va_up (BI0 2) v (nI 0) := by rw [hB3, hB2, hB1]; rfl
      have t3 : B3 3 = va_up (BI0 3) v (nI 0) := by rw [hB3, hB2, hB1]; rfl
      have hb8 := hRB.bi b hb9
      refine ⟨(e1 b hb9).1, ?_, ?_⟩
      · show B3 2 b = nI (va_up (fUs F) v 0 b)
        rw [t2]
        by_cases z : b = v
        · subst z; rw [va_up_self, va_up_self]
        · rw [va_up_ne _ _ z, va_up_ne _ _ z]; exact hb8.2.1
      · show B3 3 b = nI (fVin nb (fErase (fOper F) v) b)
        rw [t3, fVin_erase hzz]
        by_cases z : b = v
        · subst z; rw [va_up_self]
          have : fVin nb (fOper F) b = 0 := by rw [fVin_congr (F := fOper F) (G := F) rfl rfl rfl]; exact hz
          rw [this]
        · rw [va_up_ne _ _ z]; exact hb8.2.2
    · have hq2 : q < va_up (fUs F) v 0 b := hq
      have : b ≠ v := fun z => by subst z; rw [va_up_self] at hq2; omega
      rw [va_up_ne _ _ this] at hq2
      exact hRB.ba b q hb9 hq2
    · show PL0 q = oI (fNew nb (fErase (fOper F) v) q)
      rw [fNew_erase hzz]; exact hRB.pl q hq
    · refine hH3.same rfl rfl (fun b => ?_) (fun _ _ => rfl)
      show (b < nb ∧ va_up (fUs F) v 0 b = 0 ∧ fOp F ≠ some b) ↔ ((b < nb ∧ fUs F b = 0 ∧ fOp F ≠ some b) ∨ b = v)
      by_cases z : b = v
      · subst z; rw [va_up_self]; simp [hv, hop]
      · rw [va_up_ne _ _ z]; simp [z]
  · have hfu : fFu F = 1 := by
      rcases Decidable.em (fFu F = 1) with z | z
      · exact z
      · rw [sOper, if_neg z] at k2; cases k2
    have hres : sEr F v = (false, fBlow F) := by rw [sEr, if_pos hfu]
    rw [sOper, if_pos hfu] at hR1
    refine lv_iconst (v := 0) hx hb d_W_erase_7 (by decide) ?_
    exact rt_RWz C hI hr hlk rfl ⟨by rw [hres]; rfl, by rw [hres]; exact hR1⟩ d_W_erase_8
theorem sProg_op (F : Fl) (q : Nat) (v : Int32) (t : Bool) : fOp (sProg F q v t).2 = fOp F := by unfold sProg; split <;> rfl
theorem sProg_t {F : Fl} {q : Nat} {v : Int32} {t : Bool} (h : (sProg F q v t).1 = true) : sProg F q v t = (true, fProg (fOper F) q v t) := by
  unfold sProg at h ⊢
  split
  · rename_i z; rw [if_pos z] at h; cases h
  · rfl
/-- what copying keeps -/
theorem cpF_keep {v : Nat} (hO : CollOK nb sp F v) (hop : fOp F ≠ some v) : ∀ i, i ≤ 4 → (cpF nb v F i).1 = true → fOp (cpF nb v F i).2 = fOp F ∧ fUs (cpF nb v F i).2 v = fUs F v ∧ ∀ j, j < i → vld nb (cpF nb v F i).2 (4 * v + j) = false
  | 0, _, _ => ⟨rfl, rfl, fun j hj => by omega⟩
  | i + 1, hi, h => by
    cases hv : vld nb (cpF nb v F i).2 (4 * v + i) with
    | false =>
      rw [cpF_no hv] at h ⊢
      obtain ⟨a1, a2, a3⟩ := cpF_keep hO hop i (by omega) h
      refine ⟨a1, a2, fun j hj => ?_⟩
      rcases (show j < i ∨ j = i by omega) with z | z
      · exact a3 j z
      · subst z; exact hv
    | true =>
      have h0 : (cpF nb v F i).1 = true := by
        cases hc : (cpF nb v F i).1 with
        | true => rfl
        | false => rw [cpF, hc, Bool.false_and, if_neg (by decide), hc] at h; cases h
      obtain ⟨a1, a2, a3⟩ := cpF_keep hO hop i (by omega) h0
      obtain ⟨hB, hroom⟩ := hO.2 i (by omega) h0
      obtain ⟨b, hob, hub⟩ := hroom (by omega) hv
      have hbn := hB.op b hob
      have hbv : b ≠ v := fun z => hop (by rw [← a1, hob, z])
      rw [cpF_yes h0 hv] at h ⊢
      rw [sProg_t h]
      generalize hF' : (cpF nb v F i).2 = G at *
      have hobG : fOb (fOper G) = b := fOb_some (F := fOper G) hob
      have hu2 : fUs (fOper G) (fOb (fOper G)) < 4 := by rw [hobG]; exact hub
      refine ⟨a1, ?_, fun j hj => ?_⟩
      · show va_up (fUs G) (fOb (fOper G)) (fUs (fOper G) (fOb (fOper G)) + 1) v = _
        rw [hobG, va_up_ne _ _ (Ne.symm hbv)]; exact a2
      · have hnp : ¬ (4 * v + j = fNp (fOper G)) := by
          have hd := fNp_dm (fOper G) hu2
          rw [hobG] at hd
          have := hd.1
          omega
        rw [vld_prog (by rw [hobG]; exact hbn) hu2 hB.sr]
        simp only [hnp, decide_false, Bool.false_or]
        have e0 : ∀ p, vld nb (fOper G) p = vld nb G p := fun p => vld_congr rfl rfl rfl p
        rw [e0]
        rcases (show j < i ∨ j = i by omega) with z | z
        · rw [a3 j z]; rfl
        · subst z
          have : fNew nb (fOper G) (fSc G (4 * v + j)) = some (4 * v + j) := by
            rw [fNew_congr (F := fOper G) (G := G) rfl rfl rfl]; exact (vld_iff.mp hv).2
          simp [this]
theorem pf_eq {er vi : Nat → Nat} {i j : Nat} (hj : j < i) (hi : i < 16) (he : er i < 100000) (he2 : er j < 100000) : decide (vi i < vi j ∨ (vi i = vi j ∧ ky er i < ky er j)) = decide (er i + 100000 * vi i < er j + 100000 * vi j) := by
  unfold ky
  rw [decide_eq_decide]
  omega
theorem pf_eq2 {er : Nat → Nat} {i j : Nat} (hj : j < i) (hi : i < 16) : decide (ky er i < ky er j) = decide (er i + 0 < er j + 0) := by
  unfold ky
  rw [decide_eq_decide]
  omega
theorem c_W_collect (g : Bool) (hG : Geo ad (5 * nb + 10)) (hR : RC ad π nb sp F S) {v : Nat} (hO : CollOK nb sp F v) (hpk : fPick nb F 4 g = some v) (hop : fOp F ≠ some v) : RWi l D cs ad (5 * nb + 10) (eC ad cs nb) y_W_collect b_W_collect 7 (some .boolean) 4 [.ref (ad 0), .ref (ad (if g then 5 else 6))] S (fun r u => r = bI (sColl nb F v).1 ∧ RC ad π nb sp (sColl nb F v).2 u) := by
  refine MC.intro (by decide) (Nat.le_of_ble_eq_true rfl) ?_
  intro p e s m below meth c C hr hlk hnm hH ls hl
  have hI : In D ad (5 * nb + 10) s (eC ad cs nb S) s.heap [] := ⟨hG, hH, va_S.rf⟩
  have hx := C.1.1
  have hb := C.1.2.1
  have hB := (hO.2 0 (by omega) rfl).1
  have hBF : WB nb sp F := hB
  have h1 := hBF.nb
  have hv := hO.1
  have huv : fUs F v = 4 := by have := (bst_lt hpk).2; simpa using this
  refine lv_null hx hb d_W_collect_0 ?_
  refine lv_astore_nN (lv' := [(2, _), (0, _), (1, _)]) hx hb d_W_collect_1 rfl hl (by decide) rfl (fun ls hl => ?_)
  refine lv_aload_n hx hb d_W_collect_2 rfl (lv_at hl 1 rfl) ?_
  refine w_getr C hI 1 (by decide) k_fl_W_35 rfl 1 rfl d_W_collect_3 ?_
  refine lv_astore_n (lv' := [(3, _), (2, _), (0, _), (1, _)]) hx hb d_W_collect_6 rfl hl (by decide) rfl (fun ls hl => ?_)
  refine lv_aload_n hx hb d_W_collect_7 rfl (lv_at hl 0 rfl) ?_
  refine w_blen C hI  d_W_collect_8 ?_
  refine lv_istore (lv' := [(4, _), (3, _), (2, _), (0, _), (1, _)]) hx hb d_W_collect_9 hl (by decide) rfl (fun ls hl => ?_)
  refine lv_iconst (v := nI 0) hx hb d_W_collect_11 (by decide) ?_
  refine lv_istore (lv' := [(5, _), (4, _), (3, _), (2, _), (0, _), (1, _)]) hx hb d_W_collect_12 hl (by decide) rfl (fun ls hl => ?_)
  refine W_for (N := nb) (fun i => [(0, .ref (ad 0)), (1, .ref (ad (if g then 5 else 6))), (2, va_rf ((bst (fun b => fUs F b == 4) (fun k j => decide (fCost nb F g k < fCost nb F g j)) i).map (fun j => ad (5 * j + 10)))), (3, .ref (ad 1)), (4, .int (nI nb)), (5, .int (nI i))]) ?_ ?_ 0 (by omega) ls (lv_sub hl [4, 5, 3, 2, 1, 0] rfl)
  · intro i hi ih ls hl
    have hbi := hR.1.bi i hi
    have hui := hBF.us i hi
    have hei := hBF.er i hi
    refine lv_iload hx hb d_W_collect_14 (lv_at hl 5 rfl) ?_
    refine lv_iload hx hb d_W_collect_16 (lv_at hl 4 rfl) ?_
    refine bn_ge (tgt := 60) C (by omega) (by omega) d_W_collect_18 (by decide) (fun k1 => ?_) (fun k1 => ?_)
    · omega
    · refine lv_aload_n hx hb d_W_collect_21 rfl (lv_at hl 3 rfl) ?_
      refine lv_iload hx hb d_W_collect_22 (lv_at hl 5 rfl) ?_
      refine w_blk C hI hi (by omega) d_W_collect_24 ?_
      refine lv_astore (lv' := [(6, _), (0, _), (1, _), (2, _), (3, _), (4, _), (5, _)]) hx hb d_W_collect_25 hl (by decide) rfl (fun ls hl => ?_)
      refine lv_aload hx hb d_W_collect_27 (lv_at hl 0 rfl) ?_
      refine bc_ROi C hI (c_B_isFull hG hi hbi.2.1 hui) yv_B_isFull k_ml_W_66 rfl (by omega) (by decide) rfl hl.1 rfl (Nat.le_of_ble_eq_true rfl) d_W_collect_29 ⟨Nat.le_refl _, Nat.le_refl _⟩ (fun r hp => ?_)
      subst hp
      refine bb_eq (tgt := 54) C d_W_collect_32 (by decide) (fun k2 => ?_) (fun k2 => ?_)
      · refine lv_iinc (lv' := [(5, _), (6, _), (0, _), (1, _), (2, _), (3, _), (4, _)]) hx hb d_W_collect_54 hl (k := 6) rfl (nI_inc _) (by decide) rfl (fun ls hl => ?_)
        refine lv_goto (tgt := 14) hx hb d_W_collect_57 (by decide) ?_
        exact ih ls (lv_sub hl [2, 3, 4, 5, 6, 0] (by rw [bst_no (ok := fun b => fUs F b == 4) k2]; rfl))
      · refine W_if (P := bst (fun b => fUs F b == 4) (fun k j => decide (fCost nb F g k < fCost nb F g j)) (i + 1) = some i) (g2 := F0 m 51 ls []) (fun hyes => ?_) (fun J => ?_)
        · refine lv_aload hx hb d_W_collect_51 (lv_at hl 0 rfl) ?_
          refine lv_astore_n (lv' := [(2, _), (6, _), (0, _), (1, _), (3, _), (4, _), (5, _)]) hx hb d_W_collect_53 rfl hl (by decide) rfl (fun ls hl => ?_)
          refine lv_iinc (lv' := [(5, _), (2, _), (6, _), (0, _), (1, _), (3, _), (4, _)]) hx hb d_W_collect_54 hl (k := 6) rfl (nI_inc _) (by decide) rfl (fun ls hl => ?_)
          refine lv_goto (tgt := 14) hx hb d_W_collect_57 (by decide) ?_
          exact ih ls (lv_sub hl [3, 4, 1, 5, 6, 0] (by rw [hyes]; rfl))
        · cases hb9 : bst (fun b => fUs F b == 4) (fun k j => decide (fCost nb F g k < fCost nb F g j)) i with
          | none =>
            rw [hb9] at hl
            refine lv_aload_nN hx hb d_W_collect_35 rfl (lv_at hl 3 rfl) ?_
            refine lv_ifnullN (tgt := 51) hx hb d_W_collect_36 (by decide) ?_
            exact J (bst_first (ok := fun b => fUs F b == 4) k2 hb9)
          | some j =>
            have hj := bst_lt hb9
            have hej := hBF.er j (by omega)
            rw [hb9] at hl
            refine lv_aload_n hx hb d_W_collect_35 rfl (lv_at hl 3 rfl) ?_
            refine lv_ifnull hx hb d_W_collect_36 ?_
            refine lv_aload_n hx hb d_W_collect_39 rfl (lv_at hl 2 rfl) ?_
            refine lv_aload hx hb d_W_collect_40 (lv_at hl 0 rfl) ?_
            refine lv_aload_n hx hb d_W_collect_42 rfl (lv_at hl 3 rfl) ?_
            refine W_atH (pc2 := 48) (st2 := [.int (bI (decide (fCost nb F g i < fCost nb F g j)))]) (fun H' locs' ls' => H' = s.heap ∧ locs' = [] ∧ ls' = ls) ?_ (fun K => ?_)
            · rintro H' locs' ls' ⟨rfl, rfl, rfl⟩
              refine bb_eq (tgt := 54) C d_W_collect_48 (by decide) (fun k3 => ?_) (fun k3 => ?_)
              · refine lv_iinc (lv' := [(5, _), (6, _), (0, _), (1, _), (2, _), (3, _), (4, _)]) hx hb d_W_collect_54 hl (k := 6) rfl (nI_inc _) (by decide) rfl (fun ls hl => ?_)
                refine lv_goto (tgt := 14) hx hb d_W_collect_57 (by decide) ?_
                exact ih ls (lv_sub hl [2, 3, 4, 5, 6, 0] (by rw [bst_keep hb9 k3]; rfl))
              · exact J (bst_take (ok := fun b => fUs F b == 4) k2 hb9 k3)
            · cases g with
              | true =>
                refine wi_G C hI (c_G_prefers hG (hR.1.erF hBF) hR.1.viF h1.2 hi (show j < nb by omega)) (by decide) rfl hl.1 rfl (Nat.le_of_ble_eq_true rfl) d_W_collect_43 ⟨Nat.le_refl _, Nat.le_refl _⟩ (fun r hp => ?_)
                subst hp
                rw [pf_eq hj.1 (by omega) (by omega) (by omega)]
                exact K _ _ _ ⟨rfl, rfl, rfl⟩
              | false =>
                refine wi_V C hI (c_V_prefers hG (hR.1.erF hBF) h1.2 hi (show j < nb by omega)) (by decide) rfl hl.1 rfl (Nat.le_of_ble_eq_true rfl) d_W_collect_43 ⟨Nat.le_refl _, Nat.le_refl _⟩ (fun r hp => ?_)
                subst hp
                rw [pf_eq2 hj.1 (by omega)]
                exact K _ _ _ ⟨rfl, rfl, rfl⟩
  · intro ls hl
    have hpk' : bst (fun b => fUs F b == 4) (fun k j => decide (fCost nb F g k < fCost nb F g j)) nb = some v := hpk
    rw [hpk'] at hl
    refine lv_iload hx hb d_W_collect_14 (lv_at hl 5 rfl) ?_
    refine lv_iload hx hb d_W_collect_16 (lv_at hl 4 rfl) ?_
    refine bn_ge (tgt := 60) C (by omega) (by omega) d_W_collect_18 (by decide) (fun k1 => ?_) (fun k1 => ?_)
    · refine lv_aload_n hx hb d_W_collect_60 rfl (lv_at hl 2 rfl) ?_
      refine lv_ifnonnull (tgt := 66) hx hb d_W_collect_61 (by decide) ?_
      refine lv_iconst (v := nI 0) hx hb d_W_collect_66 (by decide) ?_
      refine lv_istore_n (lv' := [(3, _), (0, _), (1, _), (2, _), (4, _), (5, _)]) hx hb d_W_collect_67 rfl hl (by decide) rfl (fun ls hl => ?_)
      refine W_while (fun i => 4 - i) (fun i H locs ls => i ≤ 4 ∧ (cpF nb v F i).1 = true ∧ ∃ S1, RC ad π nb sp (cpF nb v F i).2 S1 ∧ In D ad (5 * nb + 10) s (eC ad cs nb S1) H locs ∧ lv_has ls 7 [(0, .ref (ad 0)), (2, .ref (ad (5 * v + 10))), (3, .int (nI i))]) ?_ 0 ⟨by omega, rfl, S, hR, hI, lv_sub hl [1, 3, 0] rfl⟩
      intro i H locs ls ⟨hi, hc, S1, hR1, hI, hl⟩ ih
      obtain ⟨hB, hroom⟩ := hO.2 i hi hc
      obtain ⟨hop1, hus1, hinv⟩ := cpF_keep hO hop i hi hc
      refine lv_iload_n hx hb d_W_collect_68 rfl (lv_at hl 2 rfl) ?_
      refine lv_iconst (v := nI 4) hx hb d_W_collect_69 (by decide) ?_
      refine bn_ge (tgt := 125) C (by omega) (by omega) d_W_collect_70 (by decide) (fun k2 => ?_) (fun k2 => ?_)
      · have e4 : i = 4 := by omega
        subst e4
        have hvz : fVin nb (cpF nb v F 4).2 v = 0 := by
          unfold fVin
          have : ∀ q, q < 4 → (fun q => vld nb (cpF nb v F 4).2 (4 * v + q)) q = false := hinv
          simp only [cnt]
          simp [hinv 0 (by omega), hinv 1 (by omega), hinv 2 (by omega), hinv 3 (by omega)]
          simpa using hinv 0 (by omega)
        have hres : sColl nb F v = sEr (cpF nb v F 4).2 v := by rw [sColl, hc, if_pos rfl]; rfl
        refine lv_aload_n hx hb d_W_collect_125 rfl (lv_at hl 0 rfl) ?_
        refine lv_aload_n hx hb d_W_collect_126 rfl (lv_at hl 1 rfl) ?_
        refine wc_RWi C hI (c_W_erase hG hR1 hB hv (by omega) hvz (by rw [hop1]; exact hop)) yv_W_erase k_ml_W_117 rfl (by decide) rfl hl.1 rfl (Nat.le_of_ble_eq_true rfl) d_W_collect_127 ⟨Nat.le_refl _, Nat.le_refl _⟩ (fun r S2 H locs hp hI => ?_)
        obtain ⟨rfl, hR2⟩ := hp
        exact rt_RWz C hI hr hlk (bI_nar _) ⟨by rw [hres], by rw [hres]; exact hR2⟩ d_W_collect_130
      · have hi4 : i < 4 := by omega
        have hba := hR1.1.ba v i hv (by omega)
        have hpg : prg (cpF nb v F i).2 (4 * v + i) = true := by rw [prg_eq _ v i hi4, hus1, huv]; exact decide_eq_true hi4
        have hsc := hB.sc (4 * v + i) (by omega) hpg
        refine lv_aload_n hx hb d_W_collect_73 rfl (lv_at hl 1 rfl) ?_
        refine bN_getr C hI 0 (by decide) (by omega) k_fn_W_76 d_W_collect_74 ?_
        refine lv_iload_n hx hb d_W_collect_77 rfl (lv_at hl 2 rfl) ?_
        refine bs_ald C hI hv hi4 hba.1 d_W_collect_78 ?_
        refine lv_istore (lv' := [(4, _), (0, _), (2, _), (3, _)]) hx hb d_W_collect_79 hl (by decide) rfl (fun ls hl => ?_)
        refine lv_aload_n hx hb d_W_collect_81 rfl (lv_at hl 1 rfl) ?_
        refine w_getr C hI 2 (by decide) k_fl_W_42 rfl 2 rfl d_W_collect_82 ?_
        refine lv_iload hx hb d_W_collect_85 (lv_at hl 0 rfl) ?_
        refine w_pl C hI hsc (by omega) (hR1.1.pl _ hsc) d_W_collect_87 ?_
        refine lv_aload_n hx hb d_W_collect_88 rfl (lv_at hl 2 rfl) ?_
        refine lv_iload_n hx hb d_W_collect_89 rfl (lv_at hl 3 rfl) ?_
        refine bc_ROi C hI (c_B_place hG (q := i) hv) yv_B_place k_ml_W_96 rfl (by omega) (by decide) rfl hl.1 rfl (Nat.le_of_ble_eq_true rfl) d_W_collect_90 ⟨Nat.le_refl _, Nat.le_refl _⟩ (fun r hp => ?_)
        subst hp
        refine W_if (P := vld nb (cpF nb v F i).2 (4 * v + i) = false) (g2 := F0 m 119 ls []) (fun hno => ?_) (fun J => ?_)
        · refine lv_iinc (lv' := [(3, _), (4, _), (0, _), (2, _)]) hx hb d_W_collect_119 hl (k := 3) rfl (nI_inc _) (by decide) rfl (fun ls hl => ?_)
          refine lv_goto (tgt := 68) hx hb d_W_collect_122 (by decide) ?_
          exact ih (i + 1) _ _ _ (by omega) ⟨by omega, by rw [cpF_no hno]; exact hc, S1, by rw [cpF_no hno]; exact hR1, hI, lv_sub hl [2, 3, 0] rfl⟩
        · cases hn : fNew nb (cpF nb v F i).2 (fSc (cpF nb v F i).2 (4 * v + i)) with
          | none =>
            rw [oI_none]
            refine lv_icmp_ne (tgt := 119) hx hb d_W_collect_93 (by decide) (fun k3 => ?_) (fun k3 => ?_)
            · exact J (by unfold vld; rw [hn]; simp)
            · exact absurd k3.symm (nI_nem1 (by omega))
          | some j =>
            have hj := (bst_lt hn).1
            rw [oI_some]
            refine bn_ne (tgt := 119) C (by omega) (by omega) d_W_collect_93 (by decide) (fun k3 => ?_) (fun k3 => ?_)
            · exact J (by unfold vld; rw [hn, show ((some j : Option Nat) == some (4 * v + i)) = false by simp [k3], Bool.and_false])
            · have hvl : vld nb (cpF nb v F i).2 (4 * v + i) = true := vld_iff.mpr ⟨hpg, by rw [hn, k3]⟩
              obtain ⟨b, hob, hub⟩ := hroom hi4 hvl
              refine lv_aload_n hx hb d_W_collect_96 rfl (lv_at hl 1 rfl) ?_
              refine lv_iload hx hb d_W_collect_97 (lv_at hl 0 rfl) ?_
              refine lv_aload_n hx hb d_W_collect_99 rfl (lv_at hl 2 rfl) ?_
              refine bN_getr C hI 1 (by decide) (by omega) k_fn_W_79 d_W_collect_100 ?_
              refine lv_iload_n hx hb d_W_collect_103 rfl (lv_at hl 3 rfl) ?_
              refine bv_ald C hI hv hi4 hba.2.1 d_W_collect_104 ?_
              refine lv_aload_n hx hb d_W_collect_105 rfl (lv_at hl 2 rfl) ?_
              refine bN_getr C hI 3 (by decide) (by omega) k_fn_W_83 d_W_collect_106 ?_
              refine lv_iload_n hx hb d_W_collect_109 rfl (lv_at hl 3 rfl) ?_
              refine bt_ald C hI hv hi4 hba.2.2.2 d_W_collect_110 ?_
              refine wc_RWi C hI (c_W_program hG hR1 hB hob hub hsc _ _) yv_W_program k_ml_W_113 rfl (by decide) rfl hl.1 rfl (Nat.le_of_ble_eq_true rfl) d_W_collect_111 ⟨Nat.le_refl _, Nat.le_refl _⟩ (fun r S2 H locs hp hI => ?_)
              obtain ⟨rfl, hR2⟩ := hp
              have hcp := cpF_yes hc hvl
              rw [← hcp] at hR2
              rw [← hcp]
              refine bb_ne (tgt := 119) C d_W_collect_114 (by decide) (fun k4 => ?_) (fun k4 => ?_)
              · refine lv_iinc (lv' := [(3, _), (4, _), (0, _), (2, _)]) hx hb d_W_collect_119 hl (k := 3) rfl (nI_inc _) (by decide) rfl (fun ls hl => ?_)
                refine lv_goto (tgt := 68) hx hb d_W_collect_122 (by decide) ?_
                exact ih (i + 1) _ _ _ (by omega) ⟨by omega, k4, S2, hR2, hI, lv_sub hl [2, 3, 0] rfl⟩
              · have hst := cpF_stop k4 (4 - (i + 1))
                rw [show i + 1 + (4 - (i + 1)) = 4 by omega] at hst
                have hres : sColl nb F v = cpF nb v F (i + 1) := by rw [sColl, hst, k4, if_neg (by decide)]
                refine lv_iconst (v := 0) hx hb d_W_collect_117 (by decide) ?_
                exact rt_RWz C hI hr hlk rfl ⟨by rw [hres, k4]; rfl, by rw [hres]; exact hR2⟩ d_W_collect_118
    · omega
end WC
end
section
/-! THE CLASS: isWorn, provide -/
theorem cnt_card : ∀ (n hs : Nat) (f : Nat → Bool) (hp : Nat → Nat), (∀ i, i < hs → hp i < n ∧ f (hp i) = true) → (∀ i j, i < hs → j < hs → hp i = hp j → i = j) → (∀ b, b < n → f b = true → ∃ i, i < hs ∧ hp i = b) → cnt f n = hs
  | 0, hs, f, hp, h, _, _ => by
    rcases Nat.eq_zero_or_pos hs with z | z
    · subst z; rfl
    · have := (h 0 z).1; omega
  | n + 1, hs, f, hp, h, hi, hsj => by
    unfold cnt
    cases hf : f n with
    | false =>
      rw [if_neg (by decide)]
      have := cnt_card n hs f hp (fun i hih => by
        have h9 := h i hih
        have : hp i ≠ n := fun z => by rw [z, hf] at h9; cases h9.2
        exact ⟨by omega, h9.2⟩) hi (fun b hb hb2 => hsj b (by omega) hb2)
      omega
    | true =>
      rw [if_pos rfl]
      obtain ⟨i0, hi0, he0⟩ := hsj n (by omega) hf
      have := cnt_card n (hs - 1) f (fun j => if j = i0 then hp (hs - 1) else hp j) (fun j hj => by
        have h1 := h j (by omega)
        have h2 := h (hs - 1) (by omega)
        show (if j = i0 then hp (hs - 1) else hp j) < n ∧ f (if j = i0 then hp (hs - 1) else hp j) = true
        split
        · have : hp (hs - 1) ≠ n := fun z => by have := hi (hs - 1) i0 (by omega) hi0 (by omega); omega
          exact ⟨by omega, h2.2⟩
        · have : hp j ≠ n := fun z => by have := hi j i0 (by omega) hi0 (by omega); omega
          exact ⟨by omega, h1.2⟩) (fun a b ha hb e => by
        have e' : (if a = i0 then hp (hs - 1) else hp a) = (if b = i0 then hp (hs - 1) else hp b) := e
        split at e' <;> split at e'
        · omega
        · have := hi (hs - 1) b (by omega) (by omega) e'; omega
        · have := hi a (hs - 1) (by omega) (by omega) e'; omega
        · exact hi a b (by omega) (by omega) e') (fun b hb hb2 => by
        obtain ⟨j, hj, hje⟩ := hsj b (by omega) hb2
        have hjn : j ≠ i0 := fun z => by subst z; omega
        by_cases z : j = hs - 1
        · subst z
          exact ⟨i0, by omega, by simp [hje]⟩
        · exact ⟨j, by omega, by simp [hjn, hje]⟩)
      omega
/-- how many free blocks the heap has -/
theorem HpOK.free {ad : Nat → Nat} {nb : Nat} {er : Nat → Nat} {F : Fl} {S : SW} (h : HpOK ad nb er S (fr nb F)) (ho : ∀ b, fOp F = some b → fUs F b ≠ 0) : S.1 8 = nI (fFree nb F) := by
  obtain ⟨hs, hp, a1, ⟨b1, b2, b3, b4⟩, a3⟩ := h
  have : fFree nb F = hs := cnt_card nb hs _ hp (fun i hi => by
    have := (a3 _).mpr ⟨i, hi, rfl⟩
    exact ⟨this.1, by simp [this.2.1]⟩) b3 (fun b hb hb2 => (a3 b).mp ⟨hb, by simpa using hb2, fun z => ho b z (by simpa using hb2)⟩)
  rw [this]; exact a1
theorem bI_or (a b : Bool) : bI a ||| bI b = bI (a || b) := by cases a <;> cases b <;> decide
section WV
variable {l : Launch} {D : va_G} {cs : Nat → ClassId} {ad π : Nat → Nat} {nb sp : Nat} {F : Fl} {S : SW}
theorem noRoom_op {F : Fl} (h : noRoom F = true) : ∀ b, fOp F = some b → fUs F b ≠ 0 := fun b hb => by
  unfold noRoom at h
  rw [hb] at h
  have : fUs F b = 4 := by simpa using h
  omega
theorem c_W_isWorn (hG : Geo ad (5 * nb + 10)) (hR : RB ad π nb sp F S) (hB : WB nb sp F) : ROi l D cs ad (5 * nb + 10) (eC ad cs nb S) y_W_isWorn b_W_isWorn 7 (some .boolean) 0 [.ref (ad 0)] (fun r => r = bI (fWorn nb sp F)) := by
  refine MC.intro (by decide) (Nat.le_of_ble_eq_true rfl) ?_
  intro p e s m below meth c C hr hlk hnm hH ls hl
  have hI : In D ad (5 * nb + 10) s (eC ad cs nb S) s.heap [] := ⟨hG, hH, va_S.rf⟩
  have hx := C.1.1
  have hb := C.1.2.1
  have h1 := hB.nb
  have h2 := hB.sp
  refine lv_aload_n hx hb d_W_isWorn_0 rfl (lv_at hl 0 rfl) ?_
  refine w_getr C hI 1 (by decide) k_fl_W_35 rfl 1 rfl d_W_isWorn_1 ?_
  refine lv_iconst (v := nI 0) hx hb d_W_isWorn_4 (by decide) ?_
  refine w_blk C hI (show 0 < nb by omega) (by omega) d_W_isWorn_5 ?_
  refine lv_astore_n (lv' := [(1, _), (0, _)]) hx hb d_W_isWorn_6 rfl hl (by decide) rfl (fun ls hl => ?_)
  refine lv_aload_n hx hb d_W_isWorn_7 rfl (lv_at hl 1 rfl) ?_
  refine w_getr C hI 1 (by decide) k_fl_W_35 rfl 1 rfl d_W_isWorn_8 ?_
  refine lv_iconst (v := nI 0) hx hb d_W_isWorn_11 (by decide) ?_
  refine w_blk C hI (show 0 < nb by omega) (by omega) d_W_isWorn_12 ?_
  refine lv_astore_n (lv' := [(2, _), (1, _), (0, _)]) hx hb d_W_isWorn_13 rfl hl (by decide) rfl (fun ls hl => ?_)
  refine lv_aload_n hx hb d_W_isWorn_14 rfl (lv_at hl 2 rfl) ?_
  refine w_getr C hI 1 (by decide) k_fl_W_35 rfl 1 rfl d_W_isWorn_15 ?_
  refine lv_astore_n (lv' := [(3, _), (2, _), (1, _), (0, _)]) hx hb d_W_isWorn_18 rfl hl (by decide) rfl (fun ls hl => ?_)
  refine lv_aload_n hx hb d_W_isWorn_19 rfl (lv_at hl 0 rfl) ?_
  refine w_blen C hI  d_W_isWorn_20 ?_
  refine lv_istore (lv' := [(4, _), (3, _), (2, _), (1, _), (0, _)]) hx hb d_W_isWorn_21 hl (by decide) rfl (fun ls hl => ?_)
  refine lv_iconst (v := nI 0) hx hb d_W_isWorn_23 (by decide) ?_
  refine lv_istore (lv' := [(5, _), (4, _), (3, _), (2, _), (1, _), (0, _)]) hx hb d_W_isWorn_24 hl (by decide) rfl (fun ls hl => ?_)
  refine W_while (fun i => nb - i) (fun i H locs ls => i ≤ nb ∧ H = s.heap ∧ locs = [] ∧ ∃ x y, x < nb ∧ y < nb ∧ fEr F x = mnE F (i - 1) ∧ fEr F y = mxE F (i - 1) ∧ lv_has ls 7 [(0, .ref (ad 0)), (1, .ref (ad (5 * x + 10))), (2, .ref (ad (5 * y + 10))), (3, .ref (ad 1)), (4, .int (nI nb)), (5, .int (nI i))]) ?_ 0 ⟨by omega, rfl, rfl, 0, 0, by omega, by omega, rfl, rfl, lv_sub hl [5, 4, 3, 2, 1, 0] rfl⟩
  intro i H locs ls ⟨hi, hH1, hL1, x, y, hx0, hy0, hmn, hmx, hl⟩ ih
  subst hH1 hL1
  have hex := hR.bi x hx0
  have hey := hR.bi y hy0
  have hbx := hB.er x hx0
  have hby := hB.er y hy0
  refine lv_iload hx hb d_W_isWorn_26 (lv_at hl 5 rfl) ?_
  refine lv_iload hx hb d_W_isWorn_28 (lv_at hl 4 rfl) ?_
  refine bn_ge (tgt := 83) C (by omega) (by omega) d_W_isWorn_30 (by decide) (fun k1 => ?_) (fun k1 => ?_)
  · have hie : i = nb := by omega
    subst hie
    have hle := mnE_le F (i - 1)
    refine lv_aload_n hx hb d_W_isWorn_83 rfl (lv_at hl 2 rfl) ?_
    refine bN_geti C hI 1 (by decide) (by omega) k_fn_W_100 (hey.1) d_W_isWorn_84 ?_
    refine lv_aload_n hx hb d_W_isWorn_87 rfl (lv_at hl 1 rfl) ?_
    refine bN_geti C hI 1 (by decide) (by omega) k_fn_W_100 (hex.1) d_W_isWorn_88 ?_
    refine an_sub C (by omega) d_W_isWorn_91 ?_
    refine lv_aload_n hx hb d_W_isWorn_92 rfl (lv_at hl 0 rfl) ?_
    refine w_geti C hI 0 (by decide) k_fl_W_29 rfl rfl (hR.sp) d_W_isWorn_93 ?_
    refine bn_le (tgt := 103) C (by omega) (by omega) d_W_isWorn_96 (by decide) (fun k2 => ?_) (fun k2 => ?_)
    · refine lv_iconst (v := 0) hx hb d_W_isWorn_103 (by decide) ?_
      exact rt_ROz C hr hlk rfl (by rw [fWorn, decide_eq_false (by omega)]; rfl) d_W_isWorn_104
    · refine lv_iconst (v := 1) hx hb d_W_isWorn_99 (by decide) ?_
      refine lv_goto (tgt := 104) hx hb d_W_isWorn_100 (by decide) ?_
      exact rt_ROz C hr hlk rfl (by rw [fWorn, decide_eq_true (by omega)]; rfl) d_W_isWorn_104
  · have hei := hR.bi i (by omega)
    have hbi := hB.er i (by omega)
    have sm : mnE F (i + 1 - 1) = if fEr F i < mnE F (i - 1) then fEr F i else mnE F (i - 1) := by
      rcases Nat.eq_zero_or_pos i with z | z
      · subst z; show fEr F 0 = if fEr F 0 < fEr F 0 then _ else fEr F 0; rw [if_neg (by omega)]
      · obtain ⟨k, rfl⟩ : ∃ k, i = k + 1 := ⟨i - 1, by omega⟩
        rfl
    have sx : mxE F (i + 1 - 1) = if mxE F (i - 1) < fEr F i then fEr F i else mxE F (i - 1) := by
      rcases Nat.eq_zero_or_pos i with z | z
      · subst z; show fEr F 0 = if fEr F 0 < fEr F 0 then _ else fEr F 0; rw [if_neg (by omega)]
      · obtain ⟨k, rfl⟩ : ∃ k, i = k + 1 := ⟨i - 1, by omega⟩
        rfl
    refine lv_aload_n hx hb d_W_isWorn_33 rfl (lv_at hl 3 rfl) ?_
    refine lv_iload hx hb d_W_isWorn_34 (lv_at hl 5 rfl) ?_
    refine w_blk C hI (show i < nb by omega) (by omega) d_W_isWorn_36 ?_
    refine lv_astore (lv' := [(6, _), (0, _), (1, _), (2, _), (3, _), (4, _), (5, _)]) hx hb d_W_isWorn_37 hl (by decide) rfl (fun ls hl => ?_)
    refine lv_aload hx hb d_W_isWorn_39 (lv_at hl 0 rfl) ?_
    refine bN_geti C hI 1 (by decide) (by omega) k_fn_W_100 (hei.1) d_W_isWorn_41 ?_
    refine lv_aload_n hx hb d_W_isWorn_44 rfl (lv_at hl 2 rfl) ?_
    refine bN_geti C hI 1 (by decide) (by omega) k_fn_W_100 (hex.1) d_W_isWorn_45 ?_
    refine W_atH (pc2 := 58) (st2 := []) (fun H' locs' ls => H' = s.heap ∧ locs' = [] ∧ ∃ x, x < nb ∧ fEr F x = mnE F (i + 1 - 1) ∧ lv_has ls 7 [(0, .ref (ad 0)), (1, .ref (ad (5 * x + 10))), (2, .ref (ad (5 * y + 10))), (3, .ref (ad 1)), (4, .int (nI nb)), (5, .int (nI i)), (6, .ref (ad (5 * i + 10)))]) ?_ (fun J => ?_)
    · rintro H' locs' ls ⟨rfl, rfl, x, hx0, hmn2, hl⟩
      refine lv_aload hx hb d_W_isWorn_58 (lv_at hl 6 rfl) ?_
      refine bN_geti C hI 1 (by decide) (by omega) k_fn_W_100 (hei.1) d_W_isWorn_60 ?_
      refine lv_aload_n hx hb d_W_isWorn_63 rfl (lv_at hl 2 rfl) ?_
      refine bN_geti C hI 1 (by decide) (by omega) k_fn_W_100 (hey.1) d_W_isWorn_64 ?_
      refine bn_le (tgt := 75) C (by omega) (by omega) d_W_isWorn_67 (by decide) (fun k2 => ?_) (fun k2 => ?_)
      · refine lv_aload_n hx hb d_W_isWorn_75 rfl (lv_at hl 2 rfl) ?_
        refine lv_astore_n (lv' := [(2, _), (0, _), (1, _), (3, _), (4, _), (5, _), (6, _)]) hx hb d_W_isWorn_76 rfl hl (by decide) rfl (fun ls hl => ?_)
        refine lv_iinc (lv' := [(5, _), (2, _), (0, _), (1, _), (3, _), (4, _), (6, _)]) hx hb d_W_isWorn_77 hl (k := 5) rfl (nI_inc _) (by decide) rfl (fun ls hl => ?_)
        refine lv_goto (tgt := 26) hx hb d_W_isWorn_80 (by decide) ?_
        exact ih (i + 1) _ _ _ (by omega) ⟨by omega, rfl, rfl, x, y, hx0, hy0, hmn2, by rw [sx, if_neg (by omega)]; exact hmx, lv_sub hl [2, 3, 1, 4, 5, 0] rfl⟩
      · refine lv_aload hx hb d_W_isWorn_70 (lv_at hl 6 rfl) ?_
        refine lv_goto (tgt := 76) hx hb d_W_isWorn_72 (by decide) ?_
        refine lv_astore_n (lv' := [(2, _), (0, _), (1, _), (3, _), (4, _), (5, _), (6, _)]) hx hb d_W_isWorn_76 rfl hl (by decide) rfl (fun ls hl => ?_)
        refine lv_iinc (lv' := [(5, _), (2, _), (0, _), (1, _), (3, _), (4, _), (6, _)]) hx hb d_W_isWorn_77 hl (k := 5) rfl (nI_inc _) (by decide) rfl (fun ls hl => ?_)
        refine lv_goto (tgt := 26) hx hb d_W_isWorn_80 (by decide) ?_
        exact ih (i + 1) _ _ _ (by omega) ⟨by omega, rfl, rfl, x, i, hx0, by omega, hmn2, by rw [sx, if_pos (by omega)], lv_sub hl [2, 3, 1, 4, 5, 0] rfl⟩
    · refine bn_ge (tgt := 56) C (by omega) (by omega) d_W_isWorn_48 (by decide) (fun k2 => ?_) (fun k2 => ?_)
      · refine lv_aload_n hx hb d_W_isWorn_56 rfl (lv_at hl 2 rfl) ?_
        refine lv_astore_n (lv' := [(1, _), (6, _), (0, _), (2, _), (3, _), (4, _), (5, _)]) hx hb d_W_isWorn_57 rfl hl (by decide) rfl (fun ls hl => ?_)
        exact J _ _ _ ⟨rfl, rfl, x, hx0, by rw [sm, if_neg (by omega)]; exact hmn, lv_sub hl [2, 0, 3, 4, 5, 6, 1] rfl⟩
      · refine lv_aload hx hb d_W_isWorn_51 (lv_at hl 0 rfl) ?_
        refine lv_goto (tgt := 57) hx hb d_W_isWorn_53 (by decide) ?_
        refine lv_astore_n (lv' := [(1, _), (6, _), (0, _), (2, _), (3, _), (4, _), (5, _)]) hx hb d_W_isWorn_57 rfl hl (by decide) rfl (fun ls hl => ?_)
        exact J _ _ _ ⟨rfl, rfl, i, by omega, by rw [sm, if_pos (by omega)], lv_sub hl [2, 0, 3, 4, 5, 6, 1] rfl⟩
/-- the block that pop gives is the one that the twin picks -/
theorem pick_pop {F : Fl} {b : Nat} (hno : noRoom F = true) (hnb : nb ≤ 12) (hb : fr nb F b) (hm : ∀ c, fr nb F c → ky (fEr F) b ≤ ky (fEr F) c) : fPick nb F 0 false = some b := by
  have hf : ∀ c, c < nb → fUs F c = 0 → fr nb F c := fun c hc hu => ⟨hc, hu, fun z => noRoom_op hno c z hu⟩
  refine bmin_of (key := fCost nb F false) hb.1 (by simp [hb.2.1]) (fun i hi ho => ?_) (fun i hi ho => ?_)
  · have := hm i (hf i hi (by simpa using ho))
    unfold ky at this
    show fEr F b + 0 ≤ fEr F i + 0
    have := hb.1
    omega
  · have hbn := hb.1
    have := hm i (hf i (by omega) (by simpa using ho))
    unfold ky at this
    show fEr F b + 0 < fEr F i + 0
    omega
theorem RC.setOp {b : Nat} {WI : Nat → Int32} {HQ : Nat → Option Nat} (hR : RC ad π nb sp F S) (hwk : ∀ k, k ≠ 8 → WI k = S.1 k) (hH : HpOK ad nb (fEr F) (WI, S.2.1, S.2.2.1, S.2.2.2.1, S.2.2.2.2.1, HQ, S.2.2.2.2.2.2) (fun c => fr nb F c ∧ c ≠ b)) (hno : noRoom F = true) : RC ad π nb sp (fSetOp F (some b)) (WI, some (ad (5 * b + 10)), S.2.2.1, S.2.2.2.1, S.2.2.2.2.1, HQ, S.2.2.2.2.2.2) := by
  obtain ⟨hB, -⟩ := hR
  refine ⟨⟨by show WI 0 = _; rw [hwk 0 (by decide)]; exact hB.sp, by show WI 3 = _; rw [hwk 3 (by decide)]; exact hB.nx, by show WI 4 = _; rw [hwk 4 (by decide)]; exact hB.os, by show WI 5 = _; rw [hwk 5 (by decide)]; exact hB.fu, by show WI 10 = _; rw [hwk 10 (by decide)]; exact hB.bl, rfl, fun b' hb' => ?_, hB.ba, fun q hq => (hB.pl q hq).trans (congrArg oI (fNew_congr rfl rfl rfl q)), hB.bf⟩, hH.same rfl rfl (fun c => ?_) (fun _ _ => rfl)⟩
  · have := hB.bi b' hb'
    exact ⟨this.1, this.2.1, this.2.2.trans (congrArg nI (fVin_congr rfl rfl rfl b'))⟩
  · show (c < nb ∧ fUs F c = 0 ∧ some b ≠ some c) ↔ ((c < nb ∧ fUs F c = 0 ∧ fOp F ≠ some c) ∧ c ≠ b)
    constructor
    · rintro ⟨h1, h2, h3⟩
      exact ⟨⟨h1, h2, fun z => noRoom_op hno c z h2⟩, fun z => h3 (by rw [z])⟩
    · rintro ⟨⟨h1, h2, h3⟩, h4⟩
      exact ⟨h1, h2, fun z => h4 (Option.some.inj z).symm⟩
theorem c_W_provide (hG : Geo ad (5 * nb + 10)) (hR : RC ad π nb sp F S) (hO : ProvOK nb sp 3 false F) : RWi l D cs ad (5 * nb + 10) (eC ad cs nb) y_W_provide b_W_provide 4 (some .boolean) 5 [.ref (ad 0)] S (fun r u => r = bI (sProv nb sp 3 false F).1 ∧ RC ad π nb sp (sProv nb sp 3 false F).2 u) := by
  refine MC.intro (by decide) (Nat.le_of_ble_eq_true rfl) ?_
  intro p e s m below meth c C hr hlk hnm hH ls hl
  have hI : In D ad (5 * nb + 10) s (eC ad cs nb S) s.heap [] := ⟨hG, hH, va_S.rf⟩
  have hx := C.1.1
  have hb := C.1.2.1
  have h56 : ad 5 ≠ ad 6 := fun z => by
    have h1 := hO.1.nb
    have := hG 5 6 (by omega) (by omega) z; omega
  refine lv_iconst (v := bI false) hx hb d_W_provide_0 (by decide) ?_
  refine lv_istore_n (lv' := [(1, _), (0, _)]) hx hb d_W_provide_1 rfl hl (by decide) rfl (fun ls hl => ?_)
  refine W_while (σ := Nat × Bool × Fl) (fun x => x.1) (fun x H locs ls => ProvOK nb sp x.1 x.2.1 x.2.2 ∧ sProv nb sp x.1 x.2.1 x.2.2 = sProv nb sp 3 false F ∧ ∃ S1, RC ad π nb sp x.2.2 S1 ∧ In D ad (5 * nb + 10) s (eC ad cs nb S1) H locs ∧ lv_has ls 4 [(0, .ref (ad 0)), (1, .int (bI x.2.1))]) ?_ (3, false, F) ⟨hO, rfl, S, hR, hI, lv_sub hl [1, 0] rfl⟩
  intro ⟨n, lev, F1⟩ H locs ls ⟨hO1, hs1, S1, hR1, hI, hl⟩ ih
  cases n with
  | zero => exact hO1.elim
  | succ n =>
  dsimp only at hO1 hs1 hR1 hl ih
  obtain ⟨hB, hO2⟩ := hO1
  have h1 := hB.nb
  obtain ⟨hs, hp0, h8, hq0, hset⟩ := id hR1.2
  have hsn := hq0.1
  have done : noRoom F1 = false → sProv nb sp 3 false F = (true, F1) := by
    intro hn
    rw [← hs1]
    conv => lhs; unfold sProv
    rw [hn, if_neg (by decide)]
  refine W_if (P := noRoom F1 = false) (g2 := F0 m 106 ls []) (fun hn => ?_) (fun J => ?_)
  · refine lv_iconst (v := 1) hx hb d_W_provide_106 (by decide) ?_
    exact rt_RWz C hI hr hlk rfl ⟨by rw [done hn]; rfl, by rw [done hn]; exact hR1⟩ d_W_provide_107
  · refine W_if (P := noRoom F1 = true ∧ 0 < hs) (g2 := F0 m 26 ls []) (fun ⟨hno, hpos⟩ => ?_) (fun K => ?_)
    · obtain ⟨hB2, hps, hO3, hO4⟩ := hO2 hno
      have hfree := hR1.2.free (noRoom_op hno)
      have hfs : fFree nb F1 ≤ nb := cnt_le _ nb
      have hne : ∃ b, fr nb F1 b := ⟨hp0 0, (hset _).mpr ⟨0, hpos, rfl⟩⟩
      have hfp : 0 < fFree nb F1 := by
        have e9 : nI hs = nI (fFree nb F1) := by rw [← h8]; exact hfree
        have := (nI_eq (by omega) (by omega)).mp e9
        omega
      refine lv_aload_n hx hb d_W_provide_26 rfl (lv_at hl 0 rfl) ?_
      refine w_geti C hI 8 (by decide) k_fl_W_49 rfl rfl (hfree) d_W_provide_27 ?_
      refine lv_iconst (v := nI 1) hx hb d_W_provide_30 (by decide) ?_
      refine W_at (g2 := F0 m 39 ls [.int (bI (decide (fFree nb F1 < 2)))]) ?_ (fun J2 => ?_)
      · refine lv_istore_n (lv' := [(2, _), (0, _), (1, _)]) hx hb d_W_provide_39 rfl hl (by decide) rfl (fun ls hl => ?_)
        refine lv_aload_n hx hb d_W_provide_40 rfl (lv_at hl 1 rfl) ?_
        refine lv_aload_n hx hb d_W_provide_41 rfl (lv_at hl 1 rfl) ?_
        refine wc_RWq C hI (c_W_pop hG (hR1.1.erF hB) h1.2 hR1.2 hne) yv_W_pop k_ml_W_121 rfl (by decide) rfl hl.1 rfl (Nat.le_of_ble_eq_true rfl) d_W_provide_42 ⟨Nat.le_refl _, Nat.le_refl _⟩ (fun r S2 H locs hp hI => ?_)
        obtain ⟨b, WI, HQ, rfl, hbn, hfrb, hmin, rfl, hwk, hH2⟩ := hp
        have hpk := pick_pop hno h1.2 hfrb hmin
        have hR2 := hR1.setOp hwk hH2 hno
        refine w_puto C hI k_fl_W_62 (some (ad (5 * b + 10))) d_W_provide_45 (fun H locs hI => ?_)
        rw [hpk] at hO3 hO4 hB2
        refine lv_iload_n hx hb d_W_provide_48 rfl (lv_at hl 0 rfl) ?_
        refine bb_ne (tgt := 54) C d_W_provide_49 (by decide) (fun k2 => ?_) (fun k2 => ?_)
        · have hk2 : fFree nb F1 < 2 := of_decide_eq_true k2
          obtain ⟨hp4, hC, hO5⟩ := hO3 hk2
          have hsv : sProv nb sp (n + 1) lev F1 = if (sColl nb (fSetOp F1 (some b)) ((fPick nb (fSetOp F1 (some b)) 4 (!(!lev && fWorn nb sp F1))).getD 0)).1 then sProv nb sp n (lev || (!lev && fWorn nb sp F1)) (sColl nb (fSetOp F1 (some b)) ((fPick nb (fSetOp F1 (some b)) 4 (!(!lev && fWorn nb sp F1))).getD 0)).2 else sColl nb (fSetOp F1 (some b)) ((fPick nb (fSetOp F1 (some b)) 4 (!(!lev && fWorn nb sp F1))).getD 0) := by
            conv => lhs; unfold sProv
            rw [if_pos hno, if_pos hk2, hpk]
          rw [hs1] at hsv
          generalize hev : (!lev && fWorn nb sp F1) = ev at hp4 hC hO5 hsv ⊢
          have hub : fUs F1 b = 0 := hfrb.2.1
          generalize hF2 : fSetOp F1 (some b) = F2 at hB2 hp4 hC hO5 hsv hR2
          have hw : fWorn nb sp F2 = fWorn nb sp F1 := by rw [← hF2]; exact fWorn_of rfl
          have hop2 : fOp F2 = some b := by rw [← hF2]; rfl
          have hus2 : fUs F2 = fUs F1 := by rw [← hF2]; rfl
          obtain ⟨v, hv4⟩ := isSome_t hp4
          rw [hv4] at hC hO5 hsv
          simp only [Option.getD_some] at hC hO5 hsv
          have hvu : fUs F2 v = 4 := by have := (bst_lt hv4).2; simpa using this
          have hbv : fOp F2 ≠ some v := by
            rw [hop2]; intro z
            have := Option.some.inj z
            rw [← this, hus2, hub] at hvu; omega
          -- the policy
          refine W_atH (pc2 := 77) (st2 := []) (fun H' locs' ls => H' = H ∧ locs' = locs ∧ lv_has ls 4 [(0, .ref (ad 0)), (1, .int (bI lev)), (3, .ref (ad (if (!ev) then 5 else 6)))]) ?_ (fun J3 => ?_)
          · rintro H' locs' ls ⟨rfl, rfl, hl⟩
            refine lv_iload_n hx hb d_W_provide_77 rfl (lv_at hl 1 rfl) ?_
            refine lv_aload_n hx hb d_W_provide_78 rfl (lv_at hl 2 rfl) ?_
            refine lv_aload_n hx hb d_W_provide_79 rfl (lv_at hl 0 rfl) ?_
            refine w_getr C hI 12 (by decide) k_fl_W_26 rfl 6 rfl d_W_provide_80 ?_
            refine W_at (g2 := F0 m 91 ls [.int (bI ev), .int (bI lev)]) ?_ (fun J4 => ?_)
            · refine lv_ior hx hb d_W_provide_91 ?_
              rw [bI_or]
              refine lv_istore_n (lv' := [(1, _), (0, _), (3, _)]) hx hb d_W_provide_92 rfl hl (by decide) rfl (fun ls hl => ?_)
              refine lv_aload_n hx hb d_W_provide_93 rfl (lv_at hl 1 rfl) ?_
              refine lv_aload_n hx hb d_W_provide_94 rfl (lv_at hl 2 rfl) ?_
              refine wc_RWi C hI (c_W_collect (!ev) hG hR2 hC hv4 hbv) yv_W_collect k_ml_W_128 rfl (by decide) rfl hl.1 rfl (Nat.le_of_ble_eq_true rfl) d_W_provide_95 ⟨Nat.le_refl _, Nat.le_refl _⟩ (fun r S3 H locs hp hI => ?_)
              obtain ⟨rfl, hR3⟩ := hp
              refine bb_ne (tgt := 103) C d_W_provide_98 (by decide) (fun k3 => ?_) (fun k3 => ?_)
              · have hsv2 := hsv
                rw [if_pos k3] at hsv2
                refine lv_goto (tgt := 2) hx hb d_W_provide_103 (by decide) ?_
                exact ih (n, (lev || ev), (sColl nb F2 v).2) _ _ _ (by show n < n + 1; omega) ⟨hO5 k3, hsv2.symm, _, hR3, hI, lv_sub hl [1, 0] rfl⟩
              · have hsv2 := hsv
                rw [if_neg (by rw [k3]; decide)] at hsv2
                refine lv_iconst (v := 0) hx hb d_W_provide_101 (by decide) ?_
                exact rt_RWz C hI hr hlk rfl ⟨by rw [hsv2, k3]; rfl, by rw [hsv2]; exact hR3⟩ d_W_provide_102
            · cases ev with
              | true =>
                refine lv_acmp_ne (rx := some (ad 6)) (ry := some (ad 6)) (tgt := 90) hx hb d_W_provide_83 (by decide) (fun z => absurd rfl z) (fun _ => ?_)
                refine lv_iconst (v := 1) hx hb d_W_provide_86 (by decide) ?_
                refine lv_goto (tgt := 91) hx hb d_W_provide_87 (by decide) ?_
                exact J4
              | false =>
                refine lv_acmp_ne (rx := some (ad 5)) (ry := some (ad 6)) (tgt := 90) hx hb d_W_provide_83 (by decide) (fun _ => ?_) (fun z => absurd (Option.some.inj z) h56)
                refine lv_iconst (v := 0) hx hb d_W_provide_90 (by decide) ?_
                exact J4
          · refine lv_iload_n hx hb d_W_provide_54 rfl (lv_at hl 2 rfl) ?_
            refine W_if (P := ev = false) (g2 := F0 m 72 ls []) (fun hef => ?_) (fun J5 => ?_)
            · refine lv_aload_n hx hb d_W_provide_72 rfl (lv_at hl 1 rfl) ?_
              refine w_getr C hI 11 (by decide) k_fl_W_19 rfl 5 rfl d_W_provide_73 ?_
              refine lv_astore_n (lv' := [(3, _), (2, _), (0, _), (1, _)]) hx hb d_W_provide_76 rfl hl (by decide) rfl (fun ls hl => ?_)
              exact J3 _ _ _ ⟨rfl, rfl, lv_sub hl [2, 3, 0] (by rw [hef]; rfl)⟩
            · refine bb_ne (tgt := 72) C d_W_provide_55 (by decide) (fun k3 => ?_) (fun k3 => ?_)
              · exact J5 (by rw [← hev, k3]; rfl)
              · refine lv_aload_n hx hb d_W_provide_58 rfl (lv_at hl 1 rfl) ?_
                refine wc_ROi C hI (c_W_isWorn hG hR2.1 hB2) yv_W_isWorn k_ml_W_125 rfl (by decide) rfl hl.1 rfl (Nat.le_of_ble_eq_true rfl) d_W_provide_59 ⟨Nat.le_refl _, Nat.le_refl _⟩ (fun r hp => ?_)
                subst hp
                rw [hw]
                refine bb_eq (tgt := 72) C d_W_provide_62 (by decide) (fun k4 => ?_) (fun k4 => ?_)
                · exact J5 (by rw [← hev, k3, k4]; rfl)
                · have het : ev = true := by rw [← hev, k3, k4]; rfl
                  refine lv_aload_n hx hb d_W_provide_65 rfl (lv_at hl 1 rfl) ?_
                  refine w_getr C hI 12 (by decide) k_fl_W_26 rfl 6 rfl d_W_provide_66 ?_
                  refine lv_goto (tgt := 76) hx hb d_W_provide_69 (by decide) ?_
                  refine lv_astore_n (lv' := [(3, _), (2, _), (0, _), (1, _)]) hx hb d_W_provide_76 rfl hl (by decide) rfl (fun ls hl => ?_)
                  exact J3 _ _ _ ⟨rfl, rfl, lv_sub hl [2, 3, 0] (by rw [het]; rfl)⟩
        · have hk2 : ¬ fFree nb F1 < 2 := of_decide_eq_false k2
          have hO5 := hO4 hk2
          have hn0 : noRoom (fSetOp F1 (some b)) = false := by
            unfold noRoom
            show (fUs F1 b == 4) = false
            rw [hfrb.2.1]; rfl
          have hres : sProv nb sp 3 false F = (true, fSetOp F1 (some b)) := by
            rw [← hs1]
            conv => lhs; unfold sProv
            rw [if_pos hno, if_neg hk2, hpk]
            cases n with
            | zero => exact hO5.elim
            | succ n => conv => lhs; unfold sProv
                        rw [hn0, if_neg (by decide)]
          refine lv_iconst (v := 1) hx hb d_W_provide_52 (by decide) ?_
          exact rt_RWz C hI hr hlk rfl ⟨by rw [hres]; rfl, by rw [hres]; exact hR2⟩ d_W_provide_53
      · refine bn_ne (tgt := 38) C (by omega) (by omega) d_W_provide_31 (by decide) (fun k2 => ?_) (fun k2 => ?_)
        · refine lv_iconst (v := 0) hx hb d_W_provide_38 (by decide) ?_
          refine W.eq ?_ J2
          rw [decide_eq_false (by omega)]; rfl
        · refine lv_iconst (v := 1) hx hb d_W_provide_34 (by decide) ?_
          refine lv_goto (tgt := 39) hx hb d_W_provide_35 (by decide) ?_
          refine W.eq ?_ J2
          rw [decide_eq_true (by omega)]; rfl
    · refine lv_aload_n hx hb d_W_provide_2 rfl (lv_at hl 0 rfl) ?_
      refine w_geti C hI 8 (by decide) k_fl_W_49 rfl rfl (h8) d_W_provide_3 ?_
      refine bz_le (tgt := 106) C (by omega) d_W_provide_6 (by decide) (fun k1 => ?_) (fun k1 => ?_)
      · cases hno : noRoom F1 with
        | false => exact J hno
        | true =>
          obtain ⟨-, hps, -⟩ := hO2 hno
          obtain ⟨b, hb9⟩ := isSome_t hps
          have hb8 := bst_lt hb9
          have hb7 : fUs F1 b = 0 := by simpa using hb8.2
          obtain ⟨i, hi, -⟩ := (hset b).mp ⟨hb8.1, hb7, fun z => noRoom_op hno b z hb7⟩
          omega
      · refine lv_aload_n hx hb d_W_provide_9 rfl (lv_at hl 0 rfl) ?_
        cases hop : fOp F1 with
        | none =>
          refine w_geto C hI k_fl_W_62 (show S1.2.1 = none by rw [hR1.1.op, hop]; rfl) d_W_provide_10 ?_
          refine lv_ifnullN (tgt := 26) hx hb d_W_provide_13 (by decide) ?_
          exact K ⟨by unfold noRoom; rw [hop], k1⟩
        | some b =>
          have hbn := hB.op b hop
          have hbi := hR1.1.bi b hbn
          refine w_geto C hI k_fl_W_62 (hR1.1.opS hop) d_W_provide_10 ?_
          refine lv_ifnull hx hb d_W_provide_13 ?_
          refine lv_aload_n hx hb d_W_provide_16 rfl (lv_at hl 0 rfl) ?_
          refine w_geto C hI k_fl_W_62 (hR1.1.opS hop) d_W_provide_17 ?_
          refine bc_ROi C hI (c_B_isFull hG hbn hbi.2.1 (hB.us b hbn)) yv_B_isFull k_ml_W_66 rfl (by omega) (by decide) rfl hl.1 rfl (Nat.le_of_ble_eq_true rfl) d_W_provide_20 ⟨Nat.le_refl _, Nat.le_refl _⟩ (fun r hp => ?_)
          subst hp
          refine bb_eq (tgt := 106) C d_W_provide_23 (by decide) (fun k2 => ?_) (fun k2 => ?_)
          · exact J (by unfold noRoom; rw [hop]; exact k2)
          · exact K ⟨by unfold noRoom; rw [hop]; exact k2, k1⟩
end WV
end
section
/-! THE CLASS: rebuild -/
theorem cnt_or {f g : Nat → Bool} (hd : ∀ i, ¬ (f i = true ∧ g i = true)) : ∀ n, cnt (fun i => f i || g i) n = cnt f n + cnt g n
  | 0 => rfl
  | n + 1 => by
    have := cnt_or hd n
    have h9 := hd n
    unfold cnt
    rw [this]
    cases hf : f n <;> cases hg : g n <;> simp_all <;> omega
theorem cnt_false : ∀ n, cnt (fun _ => false) n = 0
  | 0 => rfl
  | n + 1 => by unfold cnt; rw [cnt_false n]; rfl
theorem cnt_is {a : Nat} {c : Bool} {n : Nat} (h : c = true → a < n) : cnt (fun s => (s == a) && c) n = if c then 1 else 0 := by
  cases c with
  | false =>
    rw [if_neg (by decide)]
    rw [cnt_congr (g := fun _ => false) (fun i _ => by simp)]
    exact cnt_false n
  | true =>
    rw [if_pos rfl]
    have := cnt_one (f := fun _ => false) (g := fun s => (s == a) && true) (i := a) rfl (by simp) (fun j hj => by simp [hj]) (n := n) (h rfl)
    rw [this, cnt_false]
/-- a sector's valid page lies in block b -/
def vcF (nb : Nat) (F : Fl) (b s : Nat) : Bool := match fNew nb F s with
  | none => false
  | some p => p / 4 == b
theorem vc_eq {nb : Nat} {F : Fl} {b N : Nat} (hb : b < nb) (hs : ∀ p, p < 4 * nb → prg F p = true → fSc F p < N) : cnt (vcF nb F b) N = fVin nb F b := by
  have key : ∀ q, q < 4 → cnt (fun s => (s == fSc F (4 * b + q)) && vld nb F (4 * b + q)) N = if vld nb F (4 * b + q) then 1 else 0 := fun q hq => cnt_is (fun hv => hs _ (by omega) (vld_iff.mp hv).1)
  have e : ∀ s, vcF nb F b s = ((((s == fSc F (4 * b + 0)) && vld nb F (4 * b + 0)) || ((s == fSc F (4 * b + 1)) && vld nb F (4 * b + 1))) || (((s == fSc F (4 * b + 2)) && vld nb F (4 * b + 2)) || ((s == fSc F (4 * b + 3)) && vld nb F (4 * b + 3)))) := by
    intro s
    rw [Bool.eq_iff_iff]
    constructor
    · intro h
      unfold vcF at h
      split at h
      · cases h
      · rename_i p hp
        have hpb : p / 4 = b := by simpa using h
        obtain ⟨a1, a2, a3, -⟩ := fNew_some hp
        have hv : vld nb F p = true := vld_iff.mpr ⟨a2, by rw [a3]; exact hp⟩
        rcases (show p = 4 * b + 0 ∨ p = 4 * b + 1 ∨ p = 4 * b + 2 ∨ p = 4 * b + 3 by omega) with z | z | z | z <;> rw [← z] <;> simp [a3, hv]
    · intro h
      have hx : ∃ q, q < 4 ∧ s = fSc F (4 * b + q) ∧ vld nb F (4 * b + q) = true := by
        simp only [Bool.or_eq_true, Bool.and_eq_true, beq_iff_eq] at h
        rcases h with (h | h) | (h | h)
        · exact ⟨0, by omega, h.1, h.2⟩
        · exact ⟨1, by omega, h.1, h.2⟩
        · exact ⟨2, by omega, h.1, h.2⟩
        · exact ⟨3, by omega, h.1, h.2⟩
      obtain ⟨q, hq, rfl, hv⟩ := hx
      unfold vcF
      rw [(vld_iff.mp hv).2]
      simp; omega
  have dis : ∀ q r, q < 4 → r < 4 → q ≠ r → ∀ s, ¬ (((s == fSc F (4 * b + q)) && vld nb F (4 * b + q)) = true ∧ ((s == fSc F (4 * b + r)) && vld nb F (4 * b + r)) = true) := by
    intro q r hq hr hne s ⟨h1, h2⟩
    simp only [Bool.and_eq_true, beq_iff_eq] at h1 h2
    have e1 := (vld_iff.mp h1.2).2
    have e2 := (vld_iff.mp h2.2).2
    rw [← h1.1] at e1
    rw [← h2.1] at e2
    rw [e1] at e2
    have := Option.some.inj e2
    omega
  rw [cnt_congr (fun s _ => e s)]
  rw [cnt_or (fun s => by
    intro ⟨h1, h2⟩
    rw [Bool.or_eq_true] at h1 h2
    rcases h1 with h1 | h1 <;> rcases h2 with h2 | h2
    · exact dis 0 2 (by omega) (by omega) (by omega) s ⟨h1, h2⟩
    · exact dis 0 3 (by omega) (by omega) (by omega) s ⟨h1, h2⟩
    · exact dis 1 2 (by omega) (by omega) (by omega) s ⟨h1, h2⟩
    · exact dis 1 3 (by omega) (by omega) (by omega) s ⟨h1, h2⟩) N]
  rw [cnt_or (dis 0 1 (by omega) (by omega) (by omega)) N, cnt_or (dis 2 3 (by omega) (by omega) (by omega)) N]
  rw [key 0 (by omega), key 1 (by omega), key 2 (by omega), key 3 (by omega)]
  unfold fVin
  simp only [cnt]
  omega
theorem bst_skip {ok : Nat → Bool} {lt : Nat → Nat → Bool} {k : Nat} : ∀ d, (∀ p, k ≤ p → p < k + d → ok p = false) → bst ok lt (k + d) = bst ok lt k
  | 0, _ => rfl
  | d + 1, h => by
    rw [← Nat.add_assoc, bst_no (h (k + d) (by omega) (by omega))]
    exact bst_skip d (fun p h1 h2 => h p h1 (by omega))
theorem nxM_skip {F : Fl} {k : Nat} : ∀ d, (∀ p, k ≤ p → p < k + d → prg F p = false) → nxM F (k + d) = nxM F k
  | 0, _ => rfl
  | d + 1, h => by
    rw [← Nat.add_assoc, nxM, if_neg (by rw [h (k + d) (by omega) (by omega)]; simp)]
    exact nxM_skip d (fun p h1 h2 => h p h1 (by omega))
section WR
variable {l : Launch} {D : va_G} {cs : Nat → ClassId} {ad π : Nat → Nat} {nb sp : Nat} {F : Fl} {S : SW}
theorem w_max {p : Program} {e : Env} {R : Room} {s : State} {m : MethodId} {args : Array Value} {below : List Frame} {meth : Method} {c : Code} {H : Heap} {locs : List Loc} {cells slots : Nat} {Q : State → Prop} {cc : ByteArray} {nL pc : Nat} {ls : Array Slot} {rest : List Value} (C : Cc p m c cc nL s args R_W D cs) (hls : ls.size = nL) {a b : Nat} (ha : a < 2 ^ 31) (hb0 : b < 2 ^ 31) (hR : 1 ≤ R.frames ∧ (rest.map fun v => v.category).sum + 13 ≤ R.locals) (hdg : decode cc pc = .ok (.invokestatic 138, 3)) (hf : cells ≤ R.cells ∧ slots ≤ R.slots)
    (kk : W p l e R s m args below meth c H locs cells slots Q (F0 m (pc + 3) ls (.int (nI (if a < b then b else a)) :: rest))) : W p l e R s m args below meth c H locs cells slots Q (F0 m pc ls (.int (nI b) :: .int (nI a) :: rest)) := by
  refine va_mmax C.1.1 C.1.2.1 (by rw [hls]; exact C.1.2.2.1) C.1.2.2.2.1 (C.2.1.hts args _ k_ml_W_138) (C.2.1.hts args _ k_st_J_max) (C.2.1.hts args _ k_ini_Math) (C.2.1.hts args _ k_cd_J_max) hR.1 hR.2 hf.1 hf.2 hdg ?_
  have e9 : (if nI a < nI b then nI b else nI a) = nI (if a < b then b else a) := by
    by_cases z : a < b
    · rw [if_pos ((nI_ltI ha hb0).mpr z), if_pos z]
    · rw [if_neg (fun q => z ((nI_ltI ha hb0).mp q)), if_neg z]
  rw [e9]
  exact kk
theorem c_W_rebuild (hG : Geo ad (5 * nb + 10)) (hR : RC ad π nb sp F S) (hB : WB nb sp F) : RWv l D cs ad (5 * nb + 10) (eC ad cs nb) y_W_rebuild b_W_rebuild 7 none 3 [.ref (ad 0)] S (fun u => RC ad π nb sp (sReb nb F) u) := by
  refine MC.intro (by decide) (Nat.le_of_ble_eq_true rfl) ?_
  intro p e s m below meth c C hr hlk hnm hH ls hl
  have hI : In D ad (5 * nb + 10) s (eC ad cs nb S) s.heap [] := ⟨hG, hH, va_S.rf⟩
  have hx := C.1.1
  have hb := C.1.2.1
  have h1 := hB.nb
  have hnx := hB.nx
  have hD := hB.wd
  obtain ⟨hRB, hRH⟩ := hR
  obtain ⟨I0, O0, BI0, BA0, PL0, HP0, BF0, EI0⟩ := S
  refine lv_aload_n hx hb d_W_rebuild_0 rfl (lv_at hl 0 rfl) ?_
  refine lv_iconst (v := nI 0) hx hb d_W_rebuild_1 (by decide) ?_
  refine w_puti C hI 10 (by omega) k_fl_W_135 rfl rfl rfl rfl d_W_rebuild_2 (fun H locs W1 hW1 hI => ?_)
  refine lv_aload_n hx hb d_W_rebuild_5 rfl (lv_at hl 0 rfl) ?_
  refine lv_null hx hb d_W_rebuild_6 ?_
  refine w_puto C hI k_fl_W_62 none d_W_rebuild_7 (fun H locs hI => ?_)
  refine lv_aload_n hx hb d_W_rebuild_10 rfl (lv_at hl 0 rfl) ?_
  refine lv_iconst (v := nI 0) hx hb d_W_rebuild_11 (by decide) ?_
  refine w_puti C hI 8 (by omega) k_fl_W_49 rfl rfl rfl rfl d_W_rebuild_12 (fun H locs W2 hW2 hI => ?_)
  refine lv_aload_n hx hb d_W_rebuild_15 rfl (lv_at hl 0 rfl) ?_
  refine lv_iconst (v := nI 0) hx hb d_W_rebuild_16 (by decide) ?_
  refine w_puti C hI 3 (by omega) k_fl_W_90 rfl rfl rfl rfl d_W_rebuild_17 (fun H locs W3 hW3 hI => ?_)
  have g0 : W3 0 = nI sp := by rw [hW3, hW2, hW1]; exact hRB.sp
  have g3 : W3 3 = nI 0 := by rw [hW3]; rfl
  have g4 : W3 4 = nI (fOs F) := by rw [hW3, hW2, hW1]; exact hRB.os
  have g5 : W3 5 = nI (fFu F) := by rw [hW3, hW2, hW1]; exact hRB.fu
  have g8 : W3 8 = nI 0 := by rw [hW3, hW2]; rfl
  have g10 : W3 10 = nI 0 := by rw [hW3, hW2, hW1]; rfl
  refine lv_iconst (v := nI 0) hx hb d_W_rebuild_20 (by decide) ?_
  refine lv_istore_n (lv' := [(1, _), (0, _)]) hx hb d_W_rebuild_21 rfl hl (by decide) rfl (fun ls hl => ?_)
  refine W_while (fun j => 4 * (nb - 3) - j) (fun j H locs ls => j ≤ 4 * (nb - 3) ∧ ∃ PL : Nat → Int32, (∀ q, q < j → PL q = -1) ∧ In D ad (5 * nb + 10) s (eC ad cs nb (W3, none, BI0, BA0, PL, HP0, BF0, EI0)) H locs ∧ lv_has ls 7 [(0, .ref (ad 0)), (1, .int (nI j))]) ?_ 0 ⟨by omega, PL0, fun q hq => by omega, hI, lv_sub hl [1, 0] rfl⟩
  intro j H locs ls ⟨hj, PL, hpl, hI, hl⟩ ih
  refine lv_iload_n hx hb d_W_rebuild_22 rfl (lv_at hl 1 rfl) ?_
  refine lv_aload_n hx hb d_W_rebuild_23 rfl (lv_at hl 0 rfl) ?_
  refine w_getr C hI 2 (by decide) k_fl_W_42 rfl 2 rfl d_W_rebuild_24 ?_
  refine w_plen C hI  d_W_rebuild_27 ?_
  refine bn_ge (tgt := 44) C (by omega) (by omega) d_W_rebuild_28 (by decide) (fun k1 => ?_) (fun k1 => ?_)
  · have hje : j = 4 * (nb - 3) := by omega
    subst hje
    clear ih
    refine lv_aload_n hx hb d_W_rebuild_44 rfl (lv_at hl 0 rfl) ?_
    refine w_getr C hI 1 (by decide) k_fl_W_35 rfl 1 rfl d_W_rebuild_45 ?_
    refine lv_astore_n (lv' := [(1, _), (0, _)]) hx hb d_W_rebuild_48 rfl hl (by decide) rfl (fun ls hl => ?_)
    refine lv_aload_n hx hb d_W_rebuild_49 rfl (lv_at hl 0 rfl) ?_
    refine w_blen C hI  d_W_rebuild_50 ?_
    refine lv_istore_n (lv' := [(2, _), (1, _), (0, _)]) hx hb d_W_rebuild_51 rfl hl (by decide) rfl (fun ls hl => ?_)
    refine lv_iconst (v := nI 0) hx hb d_W_rebuild_52 (by decide) ?_
    refine lv_istore_n (lv' := [(3, _), (2, _), (1, _), (0, _)]) hx hb d_W_rebuild_53 rfl hl (by decide) rfl (fun ls hl => ?_)
    -- the blocks, one behind another
    refine W_while (fun i => nb - i) (fun i H locs ls => i ≤ nb ∧ ∃ (WI : Nat → Int32) (O : Option Nat) (BI : Nat → Nat → Int32) (PL : Nat → Int32) (HP : Nat → Option Nat), (∀ k, k ≠ 3 → k ≠ 8 → WI k = W3 k) ∧ WI 3 = nI (nxM F (4 * i)) ∧ O = (lstP F i).map (fun b => ad (5 * b + 10)) ∧ (∀ b, b < nb → BI 1 b = nI (fEr F b) ∧ BI 2 b = nI (fUs F b)) ∧ (∀ b, b < i → BI 3 b = nI 0) ∧ (∀ q, q < 4 * (nb - 3) → PL q = oI (bst (nwOk F q) (nwLt F) (4 * i))) ∧ HpOK ad nb (fEr F) (WI, O, BI, BA0, PL, HP, BF0, EI0) (fun c => c < i ∧ fUs F c = 0) ∧ In D ad (5 * nb + 10) s (eC ad cs nb (WI, O, BI, BA0, PL, HP, BF0, EI0)) H locs ∧ lv_has ls 7 [(0, .ref (ad 0)), (1, .ref (ad 1)), (2, .int (nI nb)), (3, .int (nI i))]) ?_ 0 ⟨by omega, W3, none, BI0, PL, HP0, fun _ _ _ => rfl, g3, rfl, fun b hb9 => ⟨(hRB.bi b hb9).1, (hRB.bi b hb9).2.1⟩, fun b hb9 => by omega, fun q hq => hpl q hq, ⟨0, fun _ => 0, g8, ⟨by omega, fun i hi => by omega, fun i j hi => by omega, fun i h0 hi => by omega⟩, fun b => ⟨fun z => by omega, fun ⟨i, hi, _⟩ => by omega⟩⟩, hI, lv_sub hl [3, 2, 1, 0] rfl⟩
    intro i H locs ls ⟨hi, WI, O, BI, PL, HP, hwk, hw3, hO, hbe, hbv, hpl, hH, hI, hl⟩ ih
    refine lv_iload_n hx hb d_W_rebuild_54 rfl (lv_at hl 3 rfl) ?_
    refine lv_iload_n hx hb d_W_rebuild_55 rfl (lv_at hl 2 rfl) ?_
    refine bn_ge (tgt := 208) C (by omega) (by omega) d_W_rebuild_56 (by decide) (fun k2 => ?_) (fun k2 => ?_)
    · -- valid pages, by the places
      have hie : i = nb := by omega
      subst hie
      clear ih
      have hplN : ∀ q, q < 4 * (i - 3) → PL q = oI (fNew i F q) := hpl
      refine lv_aload_n hx hb d_W_rebuild_208 rfl (lv_at hl 0 rfl) ?_
      refine w_getr C hI 2 (by decide) k_fl_W_42 rfl 2 rfl d_W_rebuild_209 ?_
      refine lv_astore_n (lv' := [(1, _), (0, _), (2, _), (3, _)]) hx hb d_W_rebuild_212 rfl hl (by decide) rfl (fun ls hl => ?_)
      refine lv_aload_n hx hb d_W_rebuild_213 rfl (lv_at hl 0 rfl) ?_
      refine w_plen C hI  d_W_rebuild_214 ?_
      refine lv_istore_n (lv' := [(2, _), (1, _), (0, _), (3, _)]) hx hb d_W_rebuild_215 rfl hl (by decide) rfl (fun ls hl => ?_)
      refine lv_iconst (v := nI 0) hx hb d_W_rebuild_216 (by decide) ?_
      refine lv_istore_n (lv' := [(3, _), (2, _), (1, _), (0, _)]) hx hb d_W_rebuild_217 rfl hl (by decide) rfl (fun ls hl => ?_)
      refine W_while (fun j => 4 * (i - 3) - j) (fun j H locs ls => j ≤ 4 * (i - 3) ∧ ∃ BJ : Nat → Nat → Int32, (∀ k, k ≠ 3 → BJ k = BI k) ∧ (∀ b, b < i → BJ 3 b = nI (cnt (vcF i F b) j)) ∧ In D ad (5 * i + 10) s (eC ad cs i (WI, O, BJ, BA0, PL, HP, BF0, EI0)) H locs ∧ lv_has ls 7 [(0, .ref (ad 0)), (1, .ref (ad 2)), (2, .int (nI (4 * (i - 3)))), (3, .int (nI j))]) ?_ 0 ⟨by omega, BI, fun _ _ => rfl, fun b hb9 => hbv b hb9, hI, lv_sub hl [3, 2, 1, 0] rfl⟩
      intro j H locs ls ⟨hj, BJ, hbk, hbj, hI, hl⟩ ih
      refine lv_iload_n hx hb d_W_rebuild_218 rfl (lv_at hl 3 rfl) ?_
      refine lv_iload_n hx hb d_W_rebuild_219 rfl (lv_at hl 2 rfl) ?_
      refine bn_ge (tgt := 258) C (by omega) (by omega) d_W_rebuild_220 (by decide) (fun k3 => ?_) (fun k3 => ?_)
      · have hje : j = 4 * (i - 3) := by omega
        subst hje
        refine rt_RWv C hI hr hlk ⟨⟨by show WI 0 = _; rw [hwk 0 (by decide) (by decide)]; exact g0, hw3, by show WI 4 = _; rw [hwk 4 (by decide) (by decide)]; exact g4, by show WI 5 = _; rw [hwk 5 (by decide) (by decide)]; exact g5, by show WI 10 = _; rw [hwk 10 (by decide) (by decide)]; exact g10, hO, fun b hb9 => ?_, hRB.ba, fun q hq => ?_, ⟨hRB.bf.1, hRB.bf.2.1, fun k e h => by cases h⟩⟩, hH.same rfl rfl (fun b => ?_) (fun _ _ => rfl)⟩ d_W_rebuild_258
        · refine ⟨by show BJ 1 b = _; rw [hbk 1 (by decide)]; exact (hbe b hb9).1, by show BJ 2 b = _; rw [hbk 2 (by decide)]; exact (hbe b hb9).2, ?_⟩
          show BJ 3 b = _
          rw [hbj b hb9, vc_eq hb9 hB.sc]
          exact congrArg nI (fVin_congr rfl rfl rfl b)
        · exact (hplN q hq).trans (congrArg oI (fNew_congr rfl rfl rfl q))
        · show (b < i ∧ fUs F b = 0 ∧ lstP F i ≠ some b) ↔ (b < i ∧ fUs F b = 0)
          constructor
          · rintro ⟨z1, z2, -⟩; exact ⟨z1, z2⟩
          · rintro ⟨z1, z2⟩
            refine ⟨z1, z2, fun z => ?_⟩
            have : ∀ k, lstP F k = some b → fUs F b ≠ 0 := by
              intro k
              induction k with
              | zero => intro h; cases h
              | succ k ihk =>
                intro h
                unfold lstP at h
                split at h
                · rename_i hh; cases h; omega
                · exact ihk h
            exact this i z z2
      · have hj3 : j < 4 * (i - 3) := by omega
        refine lv_aload_n hx hb d_W_rebuild_223 rfl (lv_at hl 1 rfl) ?_
        refine lv_iload_n hx hb d_W_rebuild_224 rfl (lv_at hl 3 rfl) ?_
        refine w_pl C hI hj3 (by omega) (hplN j hj3) d_W_rebuild_225 ?_
        refine lv_istore (lv' := [(4, _), (0, _), (1, _), (2, _), (3, _)]) hx hb d_W_rebuild_226 hl (by decide) rfl (fun ls hl => ?_)
        refine lv_iload hx hb d_W_rebuild_228 (lv_at hl 0 rfl) ?_
        refine lv_iconst (v := -1) hx hb d_W_rebuild_230 (by decide) ?_
        refine W_atH (pc2 := 252) (st2 := []) (fun H locs ls => ∃ BK : Nat → Nat → Int32, (∀ k, k ≠ 3 → BK k = BI k) ∧ (∀ b, b < i → BK 3 b = nI (cnt (vcF i F b) (j + 1))) ∧ In D ad (5 * i + 10) s (eC ad cs i (WI, O, BK, BA0, PL, HP, BF0, EI0)) H locs ∧ lv_has ls 7 [(0, .ref (ad 0)), (1, .ref (ad 2)), (2, .int (nI (4 * (i - 3)))), (3, .int (nI j))]) ?_ (fun J => ?_)
        · intro H locs ls ⟨BK, hbk, hbj, hI, hl⟩
          refine lv_iinc (lv' := [(3, _), (0, _), (1, _), (2, _)]) hx hb d_W_rebuild_252 hl (k := 3) rfl (nI_inc _) (by decide) rfl (fun ls hl => ?_)
          refine lv_goto (tgt := 218) hx hb d_W_rebuild_255 (by decide) ?_
          exact ih (j + 1) _ _ _ (by omega) ⟨by omega, BK, hbk, hbj, hI, lv_sub hl [1, 2, 3, 0] rfl⟩
        · refine bo_eq (tgt := 252) C (fun z hz => by have := (bst_lt hz).1; omega) d_W_rebuild_231 (by decide) (fun k4 => ?_) (fun j231 k4 => ?_)
          · exact J _ _ _ ⟨BJ, hbk, fun b hb9 => by rw [cnt_no (f := vcF i F b) (by unfold vcF; rw [k4])]; exact hbj b hb9, hI, lv_sub hl [1, 2, 3, 4] rfl⟩
          · have hj9 := (bst_lt k4).1
            have hjb : j231 / 4 < i := by omega
            have hc9 := cnt_le (vcF i F (j231 / 4)) j
            refine lv_aload_n hx hb d_W_rebuild_234 rfl (lv_at hl 1 rfl) ?_
            refine w_getr C hI 1 (by decide) k_fl_W_35 rfl 1 rfl d_W_rebuild_235 ?_
            refine lv_iload (x := nI j231) hx hb d_W_rebuild_238 (by rw [← oI_some, ← k4]; exact lv_at hl 0 rfl) ?_
            refine lv_iconst (v := nI 4) hx hb d_W_rebuild_240 (by decide) ?_
            refine an_div C (by omega) (by omega) (by omega) d_W_rebuild_241 ?_
            refine w_blk C hI hjb (by omega) d_W_rebuild_242 ?_
            refine lv_dup hx hb d_W_rebuild_243 rfl ?_
            refine bN_geti C hI 3 (by decide) (by omega) k_fn_W_93 (hbj _ hjb) d_W_rebuild_244 ?_
            refine lv_iconst (v := nI 1) hx hb d_W_rebuild_247 (by decide) ?_
            refine an_add C d_W_rebuild_248 ?_
            refine bN_puti C hI 3 (by omega) (by omega) k_fn_W_93 d_W_rebuild_249 (fun H locs BK hBK hI => ?_)
            refine J _ _ _ ⟨BK, fun k hk3 => by rw [hBK, up2, va_up_ne _ _ hk3]; exact hbk k hk3, fun b hb9 => ?_, hI, lv_sub hl [1, 2, 3, 4] rfl⟩
            rw [hBK]
            show va_up (BJ 3) (j231 / 4) _ b = _
            by_cases z : b = j231 / 4
            · rw [z, va_up_self, cnt_yes (f := vcF i F (j231 / 4)) (by unfold vcF; rw [k4]; simp)]
            · rw [va_up_ne _ _ z, cnt_no (f := vcF i F b) (by unfold vcF; rw [k4]; simp; omega)]
              exact hbj b hb9
    · have hin : i < nb := by omega
      have hui := hB.us i hin
      refine lv_aload_n hx hb d_W_rebuild_59 rfl (lv_at hl 1 rfl) ?_
      refine lv_iload_n hx hb d_W_rebuild_60 rfl (lv_at hl 3 rfl) ?_
      refine w_blk C hI hin (by omega) d_W_rebuild_61 ?_
      refine lv_astore (lv' := [(4, _), (0, _), (1, _), (2, _), (3, _)]) hx hb d_W_rebuild_62 hl (by decide) rfl (fun ls hl => ?_)
      refine lv_aload hx hb d_W_rebuild_64 (lv_at hl 0 rfl) ?_
      refine lv_iconst (v := nI 0) hx hb d_W_rebuild_66 (by decide) ?_
      refine bN_puti C hI 3 (by omega) (by omega) k_fn_W_93 d_W_rebuild_67 (fun H locs BK hBK hI => ?_)
      have hk1 : BK 1 = BI 1 := by rw [hBK]; rfl
      have hk2 : BK 2 = BI 2 := by rw [hBK]; rfl
      have hbe2 : ∀ b, b < nb → BK 1 b = nI (fEr F b) ∧ BK 2 b = nI (fUs F b) := fun b hb9 => by rw [hk1, hk2]; exact hbe b hb9
      have hbv2 : ∀ b, b < i + 1 → BK 3 b = nI 0 := fun b hb9 => by
        rw [hBK]
        show va_up (BI 3) i _ b = _
        by_cases z : b = i
        · subst z; rw [va_up_self]
        · rw [va_up_ne _ _ z]; exact hbv b (by omega)
      refine lv_aload hx hb d_W_rebuild_70 (lv_at hl 0 rfl) ?_
      refine bN_geti C hI 2 (by decide) (by omega) k_fn_W_73 ((hbe2 i hin).2) d_W_rebuild_72 ?_
      -- the pages of the block
      refine W_atH (pc2 := 101) (st2 := []) (fun H locs ls => ∃ (WJ : Nat → Int32) (O : Option Nat) (HQ : Nat → Option Nat), (∀ k, k ≠ 3 → k ≠ 8 → WJ k = W3 k) ∧ WJ 3 = nI (nxM F (4 * i)) ∧ O = (lstP F (i + 1)).map (fun b => ad (5 * b + 10)) ∧ HpOK ad nb (fEr F) (WJ, O, BK, BA0, PL, HQ, BF0, EI0) (fun c => c < i + 1 ∧ fUs F c = 0) ∧ In D ad (5 * nb + 10) s (eC ad cs nb (WJ, O, BK, BA0, PL, HQ, BF0, EI0)) H locs ∧ lv_has ls 7 [(0, .ref (ad 0)), (1, .ref (ad 1)), (2, .int (nI nb)), (3, .int (nI i)), (4, .ref (ad (5 * i + 10)))]) ?_ (fun J => ?_)
      · intro H locs ls ⟨WJ, O, HQ, hwk, hw3, hO, hH, hI, hl⟩
        refine lv_iconst (v := nI 0) hx hb d_W_rebuild_101 (by decide) ?_
        refine lv_istore (lv' := [(5, _), (0, _), (1, _), (2, _), (3, _), (4, _)]) hx hb d_W_rebuild_102 hl (by decide) rfl (fun ls hl => ?_)
        refine W_while (fun q => fUs F i - q) (fun q H locs ls => q ≤ fUs F i ∧ ∃ (WK : Nat → Int32) (PK : Nat → Int32), (∀ k, k ≠ 3 → WK k = WJ k) ∧ WK 3 = nI (nxM F (4 * i + q)) ∧ (∀ x, x < 4 * (nb - 3) → PK x = oI (bst (nwOk F x) (nwLt F) (4 * i + q))) ∧ In D ad (5 * nb + 10) s (eC ad cs nb (WK, O, BK, BA0, PK, HQ, BF0, EI0)) H locs ∧ lv_has ls 7 [(0, .ref (ad 0)), (1, .ref (ad 1)), (2, .int (nI nb)), (3, .int (nI i)), (4, .ref (ad (5 * i + 10))), (5, .int (nI q))]) ?_ 0 ⟨by omega, WJ, PL, fun _ _ => rfl, hw3, hpl, hI, lv_sub hl [1, 2, 3, 4, 5, 0] rfl⟩
        intro q H locs ls ⟨hq, WK, PK, hwk2, hwk3, hpk, hI, hl⟩ ihq
        refine lv_iload hx hb d_W_rebuild_104 (lv_at hl 5 rfl) ?_
        refine lv_aload hx hb d_W_rebuild_106 (lv_at hl 4 rfl) ?_
        refine bN_geti C hI 2 (by decide) (by omega) k_fn_W_73 ((hbe2 i hin).2) d_W_rebuild_108 ?_
        refine bn_ge (tgt := 202) C (by omega) (by omega) d_W_rebuild_111 (by decide) (fun k3 => ?_) (fun k3 => ?_)
        · have hqe : q = fUs F i := by omega
          subst hqe
          have hno : ∀ p, 4 * i + fUs F i ≤ p → p < 4 * i + fUs F i + (4 - fUs F i) → prg F p = false := by
            intro p h5 h6
            have e9 : p = 4 * i + (p - 4 * i) := by omega
            rw [e9, prg_eq F i (p - 4 * i) (by omega)]
            exact decide_eq_false (by omega)
          have e4 : 4 * (i + 1) = 4 * i + fUs F i + (4 - fUs F i) := by omega
          refine lv_iinc (lv' := [(3, _), (0, _), (1, _), (2, _), (4, _), (5, _)]) hx hb d_W_rebuild_202 hl (k := 3) rfl (nI_inc _) (by decide) rfl (fun ls hl => ?_)
          refine lv_goto (tgt := 54) hx hb d_W_rebuild_205 (by decide) ?_
          refine ih (i + 1) _ _ _ (by omega) ⟨by omega, WK, O, BK, PK, HQ, fun k h5 h6 => by rw [hwk2 k h5]; exact hwk k h5 h6, by rw [e4, nxM_skip _ hno]; exact hwk3, hO, hbe2, hbv2, fun x hx9 => ?_, hH.same (hwk2 8 (by decide)) rfl (fun _ => Iff.rfl) (fun _ _ => rfl), hI, lv_sub hl [1, 2, 3, 0] rfl⟩
          rw [e4, bst_skip _ (fun p h5 h6 => by unfold nwOk; rw [hno p h5 h6]; rfl)]
          exact hpk x hx9
        · have hq4 : q < 4 := by omega
          have hba := hRB.ba i q hin k3
          have hpg : prg F (4 * i + q) = true := by rw [prg_eq F i q hq4]; exact decide_eq_true k3
          have hs9 := hB.sr (4 * i + q) (by omega) hpg
          have hc9 := hB.sc (4 * i + q) (by omega) hpg
          have hm9 := nxM_le (fun p hp => hB.sr p hp) (4 * i + q) (by omega)
          refine lv_aload_n hx hb d_W_rebuild_114 rfl (lv_at hl 0 rfl) ?_
          refine lv_aload_n hx hb d_W_rebuild_115 rfl (lv_at hl 0 rfl) ?_
          refine w_geti C hI 3 (by decide) k_fl_W_90 rfl rfl (hwk3) d_W_rebuild_116 ?_
          refine lv_aload hx hb d_W_rebuild_119 (lv_at hl 4 rfl) ?_
          refine bN_getr C hI 2 (by decide) (by omega) k_fn_W_87 d_W_rebuild_121 ?_
          refine lv_iload hx hb d_W_rebuild_124 (lv_at hl 5 rfl) ?_
          refine br_ald C hI hin hq4 hba.2.2.1 d_W_rebuild_126 ?_
          refine lv_iconst (v := nI 1) hx hb d_W_rebuild_127 (by decide) ?_
          refine an_add C d_W_rebuild_128 ?_
          refine w_max C hl.1 (a := nxM F (4 * i + q)) (b := fSr F (4 * i + q) + 1) (by omega) (by omega) ⟨Nat.le_of_ble_eq_true rfl, Nat.le_of_ble_eq_true rfl⟩ d_W_rebuild_129 ⟨Nat.le_refl _, Nat.le_refl _⟩ ?_
          have hmx : (if nxM F (4 * i + q) < fSr F (4 * i + q) + 1 then fSr F (4 * i + q) + 1 else nxM F (4 * i + q)) = nxM F (4 * i + q + 1) := by
            conv => rhs; unfold nxM
            by_cases z : nxM F (4 * i + q) ≤ fSr F (4 * i + q)
            · rw [if_pos (by omega), if_pos ⟨hpg, z⟩]
            · rw [if_neg (by omega), if_neg (by intro z2; exact z z2.2)]
          rw [hmx]
          refine w_puti C hI 3 (by omega) k_fl_W_90 rfl rfl rfl rfl d_W_rebuild_132 (fun H locs WL hWL hI => ?_)
          have hwl : ∀ k, k ≠ 3 → WL k = WJ k := fun k h5 => by rw [hWL]; show va_up WK 3 _ k = _; rw [va_up_ne _ _ h5]; exact hwk2 k h5
          refine lv_aload hx hb d_W_rebuild_135 (lv_at hl 4 rfl) ?_
          refine bN_getr C hI 0 (by decide) (by omega) k_fn_W_76 d_W_rebuild_137 ?_
          refine lv_iload hx hb d_W_rebuild_140 (lv_at hl 5 rfl) ?_
          refine bs_ald C hI hin hq4 hba.1 d_W_rebuild_142 ?_
          refine lv_istore (lv' := [(6, _), (0, _), (1, _), (2, _), (3, _), (4, _), (5, _)]) hx hb d_W_rebuild_143 hl (by decide) rfl (fun ls hl => ?_)
          refine lv_aload_n hx hb d_W_rebuild_145 rfl (lv_at hl 1 rfl) ?_
          refine w_getr C hI 2 (by decide) k_fl_W_42 rfl 2 rfl d_W_rebuild_146 ?_
          refine lv_iload hx hb d_W_rebuild_149 (lv_at hl 0 rfl) ?_
          refine w_pl C hI hc9 (by omega) (hpk _ hc9) d_W_rebuild_151 ?_
          refine lv_iconst (v := -1) hx hb d_W_rebuild_152 (by decide) ?_
          have hok : nwOk F (fSc F (4 * i + q)) (4 * i + q) = true := by unfold nwOk; simp [hpg]
          have hoth : ∀ x, x ≠ fSc F (4 * i + q) → bst (nwOk F x) (nwLt F) (4 * i + q + 1) = bst (nwOk F x) (nwLt F) (4 * i + q) := fun x hx9 => bst_no (by unfold nwOk; simp [Ne.symm hx9])
          -- the page is taken
          refine W_if (P := bst (nwOk F (fSc F (4 * i + q))) (nwLt F) (4 * i + q + 1) = some (4 * i + q)) (g2 := F0 m 181 ls []) (fun hyes => ?_) (fun J2 => ?_)
          · refine lv_aload_n hx hb d_W_rebuild_181 rfl (lv_at hl 1 rfl) ?_
            refine w_getr C hI 2 (by decide) k_fl_W_42 rfl 2 rfl d_W_rebuild_182 ?_
            refine lv_iload hx hb d_W_rebuild_185 (lv_at hl 0 rfl) ?_
            refine lv_aload hx hb d_W_rebuild_187 (lv_at hl 5 rfl) ?_
            refine lv_iload hx hb d_W_rebuild_189 (lv_at hl 6 rfl) ?_
            refine bc_ROi C hI (c_B_place hG (q := q) hin) yv_B_place k_ml_W_96 rfl (by omega) (by decide) rfl hl.1 rfl (Nat.le_of_ble_eq_true rfl) d_W_rebuild_191 ⟨Nat.le_refl _, Nat.le_refl _⟩ (fun r hp => ?_)
            subst hp
            refine lv_i2b hx hb d_W_rebuild_194 (nI_i2b (by omega)) ?_
            refine w_plp C hI hc9 (by omega) (nI_b8 (by omega)) d_W_rebuild_195 (fun H locs PM hPM hI => ?_)
            refine lv_iinc (lv' := [(5, _), (6, _), (0, _), (1, _), (2, _), (3, _), (4, _)]) hx hb d_W_rebuild_196 hl (k := 6) rfl (nI_inc _) (by decide) rfl (fun ls hl => ?_)
            refine lv_goto (tgt := 104) hx hb d_W_rebuild_199 (by decide) ?_
            refine ihq (q + 1) _ _ _ (by omega) ⟨by omega, WL, PM, hwl, by rw [hWL]; rfl, fun x hx9 => ?_, hI, lv_sub hl [2, 3, 4, 5, 6, 0] rfl⟩
            rw [hPM]
            show va_up PK _ _ x = oI (bst (nwOk F x) (nwLt F) (4 * i + q + 1))
            by_cases z : x = fSc F (4 * i + q)
            · rw [z, va_up_self, hyes]; rfl
            · rw [va_up_ne _ _ z, hoth x z]; exact hpk x hx9
          · refine bo_eq (tgt := 181) C (fun z hz => by have := (bst_lt hz).1; omega) d_W_rebuild_153 (by decide) (fun k4 => ?_) (fun j153 k4 => ?_)
            · exact J2 (bst_first hok k4)
            · have hj9 := bst_lt k4
              have hjok : prg F j153 = true ∧ fSc F j153 = fSc F (4 * i + q) := by have := hj9.2; unfold nwOk at this; simpa using this
              have hjs := hB.sr j153 (by omega) hjok.1
              have hjb := hRB.ba (j153 / 4) (j153 % 4) (by omega) (by have := hjok.1; unfold prg at this; simpa using this)
              rw [show 4 * (j153 / 4) + j153 % 4 = j153 by omega] at hjb
              have hne : fSr F j153 ≠ fSr F (4 * i + q) := fun z => by have := hD j153 (4 * i + q) (by omega) (by omega) hjok.1 hpg z; omega
              refine lv_aload_n hx hb d_W_rebuild_156 rfl (lv_at hl 1 rfl) ?_
              refine lv_aload_n hx hb d_W_rebuild_157 rfl (lv_at hl 1 rfl) ?_
              refine w_getr C hI 2 (by decide) k_fl_W_42 rfl 2 rfl d_W_rebuild_158 ?_
              refine lv_iload hx hb d_W_rebuild_161 (lv_at hl 0 rfl) ?_
              refine w_pl C hI hc9 (by omega) (show PK (fSc F (4 * i + q)) = nI j153 by rw [hpk _ hc9, k4]; rfl) d_W_rebuild_163 ?_
              refine wc_ROi C hI (c_W_serialAt (S := (WL, O, BK, BA0, PK, HQ, BF0, EI0)) hG h1.2 (q := j153) (by omega) hjb.2.2.1) yv_W_serialAt k_ml_W_144 rfl (by decide) rfl hl.1 rfl (Nat.le_of_ble_eq_true rfl) d_W_rebuild_164 ⟨Nat.le_refl _, Nat.le_refl _⟩ (fun r hp => ?_)
              subst hp
              refine lv_aload hx hb d_W_rebuild_167 (lv_at hl 5 rfl) ?_
              refine bN_getr C hI 2 (by decide) (by omega) k_fn_W_87 d_W_rebuild_169 ?_
              refine lv_iload hx hb d_W_rebuild_172 (lv_at hl 6 rfl) ?_
              refine br_ald C hI hin hq4 hba.2.2.1 d_W_rebuild_174 ?_
              refine bn_le (tgt := 181) C (by omega) (by omega) d_W_rebuild_175 (by decide) (fun k5 => ?_) (fun k5 => ?_)
              · exact J2 (bst_take hok k4 (by unfold nwLt; simp; omega))
              · refine lv_goto (tgt := 196) hx hb d_W_rebuild_178 (by decide) ?_
                refine lv_iinc (lv' := [(5, _), (6, _), (0, _), (1, _), (2, _), (3, _), (4, _)]) hx hb d_W_rebuild_196 hl (k := 6) rfl (nI_inc _) (by decide) rfl (fun ls hl => ?_)
                refine lv_goto (tgt := 104) hx hb d_W_rebuild_199 (by decide) ?_
                refine ihq (q + 1) _ _ _ (by omega) ⟨by omega, WL, PK, hwl, by rw [hWL]; rfl, fun x hx9 => ?_, hI, lv_sub hl [2, 3, 4, 5, 6, 0] rfl⟩
                show PK x = oI (bst (nwOk F x) (nwLt F) (4 * i + q + 1))
                by_cases z : x = fSc F (4 * i + q)
                · rw [z, bst_keep k4 (by unfold nwLt; simp; omega), hpk _ hc9, k4]
                · rw [hoth x z]; exact hpk x hx9
      · refine bz_ne (tgt := 87) C (by omega) d_W_rebuild_75 (by decide) (fun k3 => ?_) (fun k3 => ?_)
        · refine lv_aload hx hb d_W_rebuild_87 (lv_at hl 0 rfl) ?_
          refine bc_ROi C hI (c_B_isFull hG hin (hbe2 i hin).2 hui) yv_B_isFull k_ml_W_66 rfl (by omega) (by decide) rfl hl.1 rfl (Nat.le_of_ble_eq_true rfl) d_W_rebuild_89 ⟨Nat.le_refl _, Nat.le_refl _⟩ (fun r hp => ?_)
          subst hp
          have hP9 : ∀ c, (c < i + 1 ∧ fUs F c = 0) ↔ (c < i ∧ fUs F c = 0) := fun c => by
            constructor
            · rintro ⟨z1, z2⟩
              rcases (show c < i ∨ c = i by omega) with z | z
              · exact ⟨z, z2⟩
              · subst z; omega
            · rintro ⟨z1, z2⟩; exact ⟨by omega, z2⟩
          refine bb_ne (tgt := 101) C d_W_rebuild_92 (by decide) (fun k4 => ?_) (fun k4 => ?_)
          · have hu4 : fUs F i = 4 := by simpa using k4
            exact J _ _ _ ⟨WI, O, HP, hwk, hw3, by rw [hO, lstP, if_neg (by omega)], hH.same rfl rfl hP9 (fun _ _ => rfl), hI, lv_sub hl [1, 2, 3, 4, 0] rfl⟩
          · have hu4 : fUs F i ≠ 4 := by simpa using k4
            refine lv_aload_n hx hb d_W_rebuild_95 rfl (lv_at hl 1 rfl) ?_
            refine lv_aload hx hb d_W_rebuild_96 (lv_at hl 0 rfl) ?_
            refine w_puto C hI k_fl_W_62 (some (ad (5 * i + 10))) d_W_rebuild_98 (fun H locs hI => ?_)
            exact J _ _ _ ⟨WI, some (ad (5 * i + 10)), HP, hwk, hw3, by rw [lstP, if_pos (by omega)]; rfl, hH.same rfl rfl hP9 (fun _ _ => rfl), hI, lv_sub hl [1, 2, 3, 4, 0] rfl⟩
        · refine lv_aload_n hx hb d_W_rebuild_78 rfl (lv_at hl 1 rfl) ?_
          refine lv_aload hx hb d_W_rebuild_79 (lv_at hl 0 rfl) ?_
          have hH2 : HpOK ad nb (fEr F) (WI, O, BK, BA0, PL, HP, BF0, EI0) (fun c => c < i ∧ fUs F c = 0) := hH.same rfl rfl (fun _ => Iff.rfl) (fun _ _ => rfl)
          refine wc_RWv C hI (c_W_push (S := (WI, O, BK, BA0, PL, HP, BF0, EI0)) hG (fun b hb9 => ⟨(hbe2 b hb9).1, by have := hB.er b hb9; omega⟩) h1.2 hH2 hin (fun z => by omega)) yv_W_push k_ml_W_103 rfl (by decide) rfl hl.1 rfl (Nat.le_of_ble_eq_true rfl) d_W_rebuild_81 ⟨Nat.le_refl _, Nat.le_refl _⟩ (fun S2 H locs hp hI => ?_)
          obtain ⟨WJ, HQ, rfl, hwj, hH3⟩ := hp
          refine lv_goto (tgt := 101) hx hb d_W_rebuild_84 (by decide) ?_
          exact J _ _ _ ⟨WJ, O, HQ, fun k h5 h6 => by rw [hwj k h6]; exact hwk k h5 h6, by rw [hwj 3 (by decide)]; exact hw3, by rw [hO, lstP, if_neg (by omega)], hH3.same rfl rfl (fun c => by
            constructor
            · rintro ⟨z1, z2⟩
              rcases (show c < i ∨ c = i by omega) with z | z
              · exact Or.inl ⟨z, z2⟩
              · exact Or.inr z
            · rintro (⟨z1, z2⟩ | z)
              · exact ⟨by omega, z2⟩
              · subst z; exact ⟨by omega, k3⟩) (fun _ _ => rfl), hI, lv_sub hl [1, 2, 3, 4, 0] rfl⟩
  · refine lv_aload_n hx hb d_W_rebuild_31 rfl (lv_at hl 0 rfl) ?_
    refine w_getr C hI 2 (by decide) k_fl_W_42 rfl 2 rfl d_W_rebuild_32 ?_
    refine lv_iload_n hx hb d_W_rebuild_35 rfl (lv_at hl 1 rfl) ?_
    refine lv_iconst (v := -1) hx hb d_W_rebuild_36 (by decide) ?_
    refine w_plp C hI (show j < 4 * (nb - 3) by omega) (by omega) (show vp_nar .byte (-1) = -1 by decide) d_W_rebuild_37 (fun H locs PM hPM hI => ?_)
    refine lv_iinc (lv' := [(1, _), (0, _)]) hx hb d_W_rebuild_38 hl (k := 1) rfl (nI_inc _) (by decide) rfl (fun ls hl => ?_)
    refine lv_goto (tgt := 22) hx hb d_W_rebuild_41 (by decide) ?_
    refine ih (j + 1) _ _ _ (by omega) ⟨by omega, PM, fun q hq => ?_, hI, lv_sub hl [1, 0] rfl⟩
    rw [hPM]
    show va_up PL j _ q = _
    by_cases z : q = j
    · subst z; rw [va_up_self]
    · rw [va_up_ne _ _ z]; exact hpl q (by omega)
end WR
end
section
/-! THE CLASS: lost, cut, store, entry, put, flush, fuse -/
section WT
variable {l : Launch} {D : va_G} {cs : Nat → ClassId} {ad π : Nat → Nat} {nb sp : Nat} {F : Fl} {S : SW}
theorem lstP_us (F : Fl) {b : Nat} : ∀ k, lstP F k = some b → fUs F b ≠ 0 ∧ fUs F b < 4
  | 0, h => by cases h
  | k + 1, h => by
    unfold lstP at h
    split at h
    · rename_i hh; cases h; exact ⟨by omega, hh.2⟩
    · exact lstP_us F k h
theorem c_W_lost (hG : Geo ad (5 * nb + 10)) (hR : RC ad π nb sp F S) (hO : LostOK nb sp F) : RWi l D cs ad (5 * nb + 10) (eC ad cs nb) y_W_lost b_W_lost 2 (some .int) 5 [.ref (ad 0)] S (fun r u => r = nI 1 ∧ RC ad π nb sp (sLost nb F) u) := by
  refine MC.intro (by decide) (Nat.le_of_ble_eq_true rfl) ?_
  intro p e s m below meth c C hr hlk hnm hH ls hl
  have hI : In D ad (5 * nb + 10) s (eC ad cs nb S) s.heap [] := ⟨hG, hH, va_S.rf⟩
  have hx := C.1.1
  have hb := C.1.2.1
  obtain ⟨hB, hB2, hO2⟩ := hO
  have h1 := hB.nb
  refine lv_aload_n hx hb d_W_lost_0 rfl (lv_at hl 0 rfl) ?_
  refine wc_RWv C hI (c_W_rebuild hG hR hB) yv_W_rebuild k_ml_W_132 rfl (by decide) rfl hl.1 rfl (Nat.le_of_ble_eq_true rfl) d_W_lost_1 ⟨Nat.le_refl _, Nat.le_refl _⟩ (fun S1 H locs hR1 hI => ?_)
  have hf8 := hR1.2.free (fun b hb9 => (lstP_us F nb hb9).1)
  have hf9 : fFree nb (sReb nb F) ≤ nb := cnt_le _ nb
  refine lv_iconst (v := nI 0) hx hb d_W_lost_4 (by decide) ?_
  refine lv_istore_n (lv' := [(1, _), (0, _)]) hx hb d_W_lost_5 rfl hl (by decide) rfl (fun ls hl => ?_)
  refine lv_iload_n hx hb d_W_lost_6 rfl (lv_at hl 0 rfl) ?_
  refine lv_iconst (v := nI 4) hx hb d_W_lost_7 (by decide) ?_
  refine bn_ge (tgt := 39) C (by omega) (by omega) d_W_lost_8 (by decide) (fun k1 => ?_) (fun k1 => ?_)
  · omega
  · refine lv_aload_n hx hb d_W_lost_11 rfl (lv_at hl 1 rfl) ?_
    refine w_geti C hI 8 (by decide) k_fl_W_49 rfl rfl (hf8) d_W_lost_12 ?_
    refine bz_ne (tgt := 39) C (by omega) d_W_lost_15 (by decide) (fun k2 => ?_) (fun k2 => ?_)
    · refine lv_iconst (v := nI 1) hx hb d_W_lost_39 (by decide) ?_
      exact rt_RWi C hI hr hlk ⟨rfl, by rw [sLost, if_neg (by omega)]; exact hR1⟩ d_W_lost_40
    · obtain ⟨hp4, hC, hc1⟩ := hO2 k2
      obtain ⟨v, hv4⟩ := isSome_t hp4
      have hvu0 : fUs (sReb nb F) v = 4 := by have := (bst_lt hv4).2; simpa using this
      have hvu : fUs F v = 4 := hvu0
      have hres : sLost nb F = (sColl nb (sReb nb F) v).2 := by rw [sLost, if_pos k2, hv4]; rfl
      rw [hv4] at hC hc1
      simp only [Option.getD_some] at hC hc1
      refine lv_aload_n hx hb d_W_lost_18 rfl (lv_at hl 1 rfl) ?_
      refine lv_aload_n hx hb d_W_lost_19 rfl (lv_at hl 1 rfl) ?_
      refine w_getr C hI 11 (by decide) k_fl_W_19 rfl 5 rfl d_W_lost_20 ?_
      refine wc_RWi C hI (c_W_collect true hG hR1 hC hv4 (fun z => by have := (lstP_us F nb z).2; omega)) yv_W_collect k_ml_W_128 rfl (by decide) rfl hl.1 rfl (Nat.le_of_ble_eq_true rfl) d_W_lost_23 ⟨Nat.le_refl _, Nat.le_refl _⟩ (fun r S2 H locs hp hI => ?_)
      obtain ⟨rfl, hR2⟩ := hp
      rw [hc1]
      refine bb_ne (tgt := 39) C d_W_lost_26 (by decide) (fun k3 => ?_) (fun k3 => ?_)
      · refine lv_iconst (v := nI 1) hx hb d_W_lost_39 (by decide) ?_
        exact rt_RWi C hI hr hlk ⟨rfl, by rw [hres]; exact hR2⟩ d_W_lost_40
      · cases k3
theorem c_W_cut (hG : Geo ad (5 * nb + 10)) (hR : RC ad π nb sp F S) (hO : LostOK nb sp F) : RWv l D cs ad (5 * nb + 10) (eC ad cs nb) y_W_cut b_W_cut 1 none 6 [.ref (ad 0)] S (fun u => RC ad π nb sp (sLost nb F) u) := by
  refine MC.intro (by decide) (Nat.le_of_ble_eq_true rfl) ?_
  intro p e s m below meth c C hr hlk hnm hH ls hl
  have hI : In D ad (5 * nb + 10) s (eC ad cs nb S) s.heap [] := ⟨hG, hH, va_S.rf⟩
  have hx := C.1.1
  have hb := C.1.2.1
  refine lv_aload_n hx hb d_W_cut_0 rfl (lv_at hl 0 rfl) ?_
  refine wc_RWi C hI (c_W_lost hG hR hO) yv_W_lost k_ml_W_147 rfl (by decide) rfl hl.1 rfl (Nat.le_of_ble_eq_true rfl) d_W_cut_1 ⟨Nat.le_refl _, Nat.le_refl _⟩ (fun r S1 H locs hp hI => ?_)
  refine lv_pop hx hb d_W_cut_4 rfl ?_
  exact rt_RWv C hI hr hlk hp.2 d_W_cut_5
theorem c_W_fuse (hG : Geo ad (5 * nb + 10)) (hR : RC ad π nb sp F S) (x : Int32) : RWi l D cs ad (5 * nb + 10) (eC ad cs nb) y_W_fuse b_W_fuse 2 (some .boolean) 0 [.ref (ad 0), .int x] S (fun r u => r = bI (sFuse F x).1 ∧ RC ad π nb sp (sFuse F x).2 u) := by
  refine MC.intro (by decide) (Nat.le_of_ble_eq_true rfl) ?_
  intro p e s m below meth c C hr hlk hnm hH ls hl
  have hI : In D ad (5 * nb + 10) s (eC ad cs nb S) s.heap [] := ⟨hG, hH, va_S.rf⟩
  have hx := C.1.1
  have hb := C.1.2.1
  refine W_if (P := inR 1001 x = none) (g2 := F0 m 11 ls []) (fun hn => ?_) (fun J => ?_)
  · refine lv_iconst (v := 0) hx hb d_W_fuse_11 (by decide) ?_
    exact rt_RWz C hI hr hlk rfl ⟨by rw [sFuse, hn]; rfl, by rw [sFuse, hn]; exact hR⟩ d_W_fuse_12
  · refine lv_iload_n hx hb d_W_fuse_0 rfl (lv_at hl 1 rfl) ?_
    refine lv_if_lt (tgt := 11) hx hb d_W_fuse_1 (by decide) (fun k1 => ?_) (fun k1 => ?_)
    · exact J (inR_neg k1)
    · refine lv_iload_n hx hb d_W_fuse_4 rfl (lv_at hl 1 rfl) ?_
      refine lv_sipush (v := nI 1000) hx hb d_W_fuse_5 (by decide) ?_
      refine lv_icmp_le (tgt := 13) hx hb d_W_fuse_8 (by decide) (fun k2 => ?_) (fun k2 => ?_)
      · obtain ⟨j, hj, rfl, e1⟩ := inR_ok (N := 1001) (by omega) k1 (by
          intro z
          have z1 := Int32.le_trans z k2
          exact absurd z1 (by decide))
        refine lv_aload_n hx hb d_W_fuse_13 rfl (lv_at hl 0 rfl) ?_
        refine lv_iload_n hx hb d_W_fuse_14 rfl (lv_at hl 1 rfl) ?_
        refine w_puti C hI 5 (by omega) k_fl_W_56 rfl rfl rfl rfl d_W_fuse_15 (fun H locs WI hWI hI => ?_)
        refine lv_iconst (v := 1) hx hb d_W_fuse_18 (by decide) ?_
        subst hWI
        refine rt_RWz C hI hr hlk rfl ⟨by rw [sFuse, e1]; rfl, ?_⟩ d_W_fuse_19
        rw [sFuse, e1]
        obtain ⟨hB, hH⟩ := hR
        exact ⟨⟨hB.sp, hB.nx, hB.os, rfl, hB.bl, hB.op, fun b hb9 => ⟨(hB.bi b hb9).1, (hB.bi b hb9).2.1, (hB.bi b hb9).2.2.trans (congrArg nI (fVin_congr rfl rfl rfl b))⟩, hB.ba, fun q hq => (hB.pl q hq).trans (congrArg oI (fNew_congr rfl rfl rfl q)), hB.bf⟩, hH.same rfl rfl (fun _ => Iff.rfl) (fun _ _ => rfl)⟩
      · refine J ?_
        rcases pk_ix x (n := 1001) (by omega) with z | z | ⟨j, hj, rfl⟩
        · exact absurd z k1
        · exact inR_big (by omega) z
        · exact absurd (nI_le (show j ≤ 1000 by omega) (by omega)) k2
theorem c_W_entry (hG : Geo ad (5 * nb + 10)) (hR : RB ad π nb sp F S) (hB : WB nb sp F) {q : Nat} (hq : q < 4 * (nb - 3)) : ROq l D cs ad (5 * nb + 10) (eC ad cs nb S) y_W_entry b_W_entry 3 (some (.object "WornFlash$Entry")) 0 [.ref (ad 0), .int (nI q)] (fun r => r = (bfI (fBf F) q).map (fun k => ad (π k + 7))) := by
  refine MC.intro (by decide) (Nat.le_of_ble_eq_true rfl) ?_
  intro p e s m below meth c C hr hlk hnm hH ls hl
  have hI : In D ad (5 * nb + 10) s (eC ad cs nb S) s.heap [] := ⟨hG, hH, va_S.rf⟩
  have hx := C.1.1
  have hb := C.1.2.1
  have h1 := hB.nb
  have h2 := hB.bl
  refine lv_iconst (v := nI 0) hx hb d_W_entry_0 (by decide) ?_
  refine lv_istore_n (lv' := [(2, _), (0, _), (1, _)]) hx hb d_W_entry_1 rfl hl (by decide) rfl (fun ls hl => ?_)
  refine W_while (fun i => (fBf F).length - i) (fun i H locs ls => i ≤ (fBf F).length ∧ H = s.heap ∧ locs = [] ∧ (∀ j, j < i → ∀ x, (fBf F)[j]? = some x → x.1 ≠ q) ∧ lv_has ls 3 [(0, .ref (ad 0)), (1, .int (nI q)), (2, .int (nI i))]) ?_ 0 ⟨by omega, rfl, rfl, fun j hj => by omega, lv_sub hl [1, 2, 0] rfl⟩
  intro i H locs ls ⟨hi, hH1, hL1, hn, hl⟩ ih
  subst hH1 hL1
  refine lv_iload_n hx hb d_W_entry_2 rfl (lv_at hl 2 rfl) ?_
  refine lv_aload_n hx hb d_W_entry_3 rfl (lv_at hl 0 rfl) ?_
  refine w_geti C hI 10 (by decide) k_fl_W_135 rfl rfl (hR.bl) d_W_entry_4 ?_
  refine bn_ge (tgt := 36) C (by omega) (by omega) d_W_entry_7 (by decide) (fun k1 => ?_) (fun k1 => ?_)
  · refine lv_null hx hb d_W_entry_36 ?_
    have hie : i = (fBf F).length := by omega
    exact rt_ROq (v := none) C hr hlk (by rw [bfI_no (fun j hj => hn j (by omega))]; rfl) d_W_entry_37
  · have he : (fBf F)[i]? = some (fBf F)[i] := List.getElem?_eq_getElem k1
    have hs0 := hB.bs _ _ he
    have hpi := hR.bf.1 i (by omega)
    refine lv_aload_n hx hb d_W_entry_10 rfl (lv_at hl 0 rfl) ?_
    refine w_getr C hI 9 (by decide) k_fl_W_10 rfl 4 rfl d_W_entry_11 ?_
    refine lv_iload_n hx hb d_W_entry_14 rfl (lv_at hl 2 rfl) ?_
    refine w_bf C hI (by omega) hpi.2 d_W_entry_15 ?_
    refine eN_geti C hI 0 (by decide) hpi.1 k_fn_W_154 (hR.bf.2.2 _ _ he).1 d_W_entry_16 ?_
    refine lv_iload_n hx hb d_W_entry_19 rfl (lv_at hl 1 rfl) ?_
    refine bn_ne (tgt := 30) C (by omega) (by omega) d_W_entry_20 (by decide) (fun k2 => ?_) (fun k2 => ?_)
    · refine lv_iinc (lv' := [(2, _), (0, _), (1, _)]) hx hb d_W_entry_30 hl (k := 2) rfl (nI_inc _) (by decide) rfl (fun ls hl => ?_)
      refine lv_goto (tgt := 2) hx hb d_W_entry_33 (by decide) ?_
      exact ih (i + 1) _ _ _ (by omega) ⟨by omega, rfl, rfl, fun j hj x hx => by
        rcases (show j < i ∨ j = i by omega) with z | z
        · exact hn j z x hx
        · subst z; rw [he] at hx; cases hx; exact k2, lv_sub hl [1, 2, 0] rfl⟩
    · refine lv_aload_n hx hb d_W_entry_23 rfl (lv_at hl 0 rfl) ?_
      refine w_getr C hI 9 (by decide) k_fl_W_10 rfl 4 rfl d_W_entry_24 ?_
      refine lv_iload_n hx hb d_W_entry_27 rfl (lv_at hl 2 rfl) ?_
      refine w_bf C hI (by omega) hpi.2 d_W_entry_28 ?_
      exact rt_ROq (v := some (ad (π i + 7))) C hr hlk (by rw [bfI_at he k2 hn]; rfl) d_W_entry_29
/-- the buffer when its first entry has gone to its end -/
def rot (π : Nat → Nat) (n : Nat) : Nat → Nat := fun i => if i < n then π (i + 1) else if i = n then π 0 else π i
theorem c_W_store (hG : Geo ad (5 * nb + 10)) (hR : RC ad π nb sp F S) (hO : StoreOK nb sp F) : RWi l D cs ad (5 * nb + 10) (eC ad cs nb) y_W_store b_W_store 3 (some .boolean) 6 [.ref (ad 0)] S (fun r u => r = bI (sStore nb sp F).1 ∧ ∃ π', RC ad π' nb sp (sStore nb sp F).2 u) := by
  refine MC.intro (by decide) (Nat.le_of_ble_eq_true rfl) ?_
  intro p e s m below meth c C hr hlk hnm hH ls hl
  have hI : In D ad (5 * nb + 10) s (eC ad cs nb S) s.heap [] := ⟨hG, hH, va_S.rf⟩
  have hx := C.1.1
  have hb := C.1.2.1
  obtain ⟨hne, hP, hO2⟩ := hO
  obtain ⟨e1, r1, hbf⟩ : ∃ e r, fBf F = e :: r := by
    cases h : fBf F with
    | nil => exact absurd h hne
    | cons e r => exact ⟨e, r, rfl⟩
  have hhd : hdB (fBf F) = e1 := by rw [hbf]; rfl
  have htl : (fBf F).tail = r1 := by rw [hbf]; rfl
  have hp0 := hR.1.bf.1 0 (by omega)
  refine lv_aload_n hx hb d_W_store_0 rfl (lv_at hl 0 rfl) ?_
  refine w_getr C hI 9 (by decide) k_fl_W_10 rfl 4 rfl d_W_store_1 ?_
  refine lv_iconst (v := nI 0) hx hb d_W_store_4 (by decide) ?_
  refine w_bf C hI (by omega) hp0.2 d_W_store_5 ?_
  refine lv_astore_n (lv' := [(1, _), (0, _)]) hx hb d_W_store_6 rfl hl (by decide) rfl (fun ls hl => ?_)
  refine lv_aload_n hx hb d_W_store_7 rfl (lv_at hl 1 rfl) ?_
  refine wc_RWi C hI (c_W_provide hG hR hP) yv_W_provide k_ml_W_151 rfl (by decide) rfl hl.1 rfl (Nat.le_of_ble_eq_true rfl) d_W_store_8 ⟨Nat.le_refl _, Nat.le_refl _⟩ (fun r S1 H locs hp hI => ?_)
  obtain ⟨rfl, hR1⟩ := hp
  refine bb_eq (tgt := 33) C d_W_store_11 (by decide) (fun k1 => ?_) (fun k1 => ?_)
  · refine lv_iconst (v := 0) hx hb d_W_store_33 (by decide) ?_
    exact rt_RWz C hI hr hlk rfl ⟨by rw [sStore, if_neg (by rw [k1]; decide), k1]; rfl, π, by rw [sStore, if_neg (by rw [k1]; decide)]; exact hR1⟩ d_W_store_34
  · obtain ⟨hB1, hbf1, b, hop, hub⟩ := hO2 k1
    have hres : sStore nb sp F = if (sProg (sProv nb sp 3 false F).2 e1.1 e1.2.1 e1.2.2).1 then (true, fSetBf (sProg (sProv nb sp 3 false F).2 e1.1 e1.2.1 e1.2.2).2 r1) else sProg (sProv nb sp 3 false F).2 e1.1 e1.2.1 e1.2.2 := by
      rw [sStore, if_pos k1, hhd, htl]
    generalize hF1 : (sProv nb sp 3 false F).2 = F1 at hB1 hbf1 hop hub hres hR1
    have hbf2 : fBf F1 = e1 :: r1 := by rw [hbf1, hbf]
    have he0 := hR1.1.bf.2.2 0 e1 (by rw [hbf2]; rfl)
    have hs0 := hB1.bs 0 e1 (by rw [hbf2]; rfl)
    have hl3 := hB1.bl
    rw [hbf2, List.length_cons] at hl3
    refine lv_aload_n hx hb d_W_store_14 rfl (lv_at hl 1 rfl) ?_
    refine lv_aload_n hx hb d_W_store_15 rfl (lv_at hl 0 rfl) ?_
    refine eN_geti C hI 0 (by decide) hp0.1 k_fn_W_154 he0.1 d_W_store_16 ?_
    refine lv_aload_n hx hb d_W_store_19 rfl (lv_at hl 0 rfl) ?_
    refine eN_geti C hI 1 (by decide) hp0.1 k_fn_W_156 he0.2.1 d_W_store_20 ?_
    refine lv_aload_n hx hb d_W_store_23 rfl (lv_at hl 0 rfl) ?_
    refine eN_geti C hI 2 (by decide) hp0.1 k_fn_W_158 he0.2.2 d_W_store_24 ?_
    refine wc_RWi C hI (c_W_program hG hR1 hB1 hop hub hs0 _ _) yv_W_program k_ml_W_113 rfl (by decide) rfl hl.1 rfl (Nat.le_of_ble_eq_true rfl) d_W_store_27 ⟨Nat.le_refl _, Nat.le_refl _⟩ (fun r S2 H locs hp hI => ?_)
    obtain ⟨rfl, hR2⟩ := hp
    have hbf3 : fBf (sProg F1 e1.1 e1.2.1 e1.2.2).2 = e1 :: r1 := by
      rw [← hbf2, sProg]; split <;> rfl
    refine bb_ne (tgt := 35) C d_W_store_30 (by decide) (fun k2 => ?_) (fun k2 => ?_)
    · rw [if_pos k2] at hres
      generalize hF2 : (sProg F1 e1.1 e1.2.1 e1.2.2).2 = F2 at hR2 hbf3 hres
      obtain ⟨hRB, hRH⟩ := hR2
      obtain ⟨I2, O2, BI2, BA2, PL2, HP2, BF2, EI2⟩ := S2
      have hbl : I2 10 = nI (r1.length + 1) := by have h := hRB.bl; rw [hbf3] at h; exact h
      refine lv_iconst (v := nI 1) hx hb d_W_store_35 (by decide) ?_
      refine lv_istore_n (lv' := [(2, _), (1, _), (0, _)]) hx hb d_W_store_36 rfl hl (by decide) rfl (fun ls hl => ?_)
      refine W_while (fun k => r1.length + 1 - k) (fun k H locs ls => (1 ≤ k ∧ k ≤ r1.length + 1) ∧ ∃ BF : Nat → Option Nat, (∀ i, i < 3 → BF i = some (ad ((if i + 1 < k then π (i + 1) else π i) + 7))) ∧ In D ad (5 * nb + 10) s (eC ad cs nb (I2, O2, BI2, BA2, PL2, HP2, BF, EI2)) H locs ∧ lv_has ls 3 [(0, .ref (ad 0)), (1, .ref (ad (π 0 + 7))), (2, .int (nI k))]) ?_ 1 ⟨by omega, BF2, fun i hi => by rw [if_neg (by omega)]; exact (hRB.bf.1 i hi).2, hI, lv_sub hl [2, 1, 0] rfl⟩
      intro k H locs ls ⟨hk, BF, hBF, hI, hl⟩ ih
      refine lv_iload_n hx hb d_W_store_37 rfl (lv_at hl 2 rfl) ?_
      refine lv_aload_n hx hb d_W_store_38 rfl (lv_at hl 0 rfl) ?_
      refine w_geti C hI 10 (by decide) k_fl_W_135 rfl rfl (hbl) d_W_store_39 ?_
      refine bn_ge (tgt := 65) C (by omega) (by omega) d_W_store_42 (by decide) (fun k3 => ?_) (fun k3 => ?_)
      · have hke : k = r1.length + 1 := by omega
        subst hke
        refine lv_aload_n hx hb d_W_store_65 rfl (lv_at hl 0 rfl) ?_
        refine w_getr C hI 9 (by decide) k_fl_W_10 rfl 4 rfl d_W_store_66 ?_
        refine lv_aload_n hx hb d_W_store_69 rfl (lv_at hl 0 rfl) ?_
        refine lv_dup hx hb d_W_store_70 rfl ?_
        refine w_geti C hI 10 (by decide) k_fl_W_135 rfl rfl (hbl) d_W_store_71 ?_
        refine lv_iconst (v := nI 1) hx hb d_W_store_74 (by decide) ?_
        refine an_sub C (by omega) d_W_store_75 ?_
        refine lv_dup_x1 hx hb d_W_store_76 rfl rfl ?_
        refine w_puti C hI 10 (by omega) k_fl_W_135 rfl rfl rfl rfl d_W_store_77 (fun H locs WJ hWJ hI => ?_)
        have hrl : r1.length + 1 - 1 = r1.length := by omega
        rw [hrl] at hWJ ⊢
        refine lv_aload_n hx hb d_W_store_80 rfl (lv_at hl 1 rfl) ?_
        refine w_bfp C hI (i := r1.length) (jv := π 0) (by omega) hp0.1 d_W_store_81 (fun H locs BG hBG hI => ?_)
        refine lv_iconst (v := 1) hx hb d_W_store_82 (by decide) ?_
        refine rt_RWz C hI hr hlk rfl ⟨by rw [hres]; rfl, rot π r1.length, ?_⟩ d_W_store_83
        rw [hres]
        have hpl : ∀ i, i < 3 → π i < 3 := fun i hi => (hRB.bf.1 i hi).1
        have hinj := hRB.bf.2.1
        refine ⟨⟨by show WJ 0 = _; rw [hWJ]; exact hRB.sp, by show WJ 3 = _; rw [hWJ]; exact hRB.nx, by show WJ 4 = _; rw [hWJ]; exact hRB.os, by show WJ 5 = _; rw [hWJ]; exact hRB.fu, by show WJ 10 = _; rw [hWJ]; rfl, hRB.op, fun b' hb9 => ⟨(hRB.bi b' hb9).1, (hRB.bi b' hb9).2.1, (hRB.bi b' hb9).2.2.trans (congrArg nI (fVin_congr rfl rfl rfl b'))⟩, hRB.ba, fun q hq => (hRB.pl q hq).trans (congrArg oI (fNew_congr rfl rfl rfl q)), fun i hi => ?_, fun i j hi hj e => ?_, fun i x hx9 => ?_⟩, hRH.same (by show WJ 8 = _; rw [hWJ]; rfl) rfl (fun _ => Iff.rfl) (fun _ _ => rfl)⟩
        · unfold rot
          show _ ∧ BG i = _
          rw [hBG]
          rcases Nat.lt_trichotomy i r1.length with z | z | z
          · rw [if_pos z, va_up_ne _ _ (by omega)]
            exact ⟨hpl (i + 1) (by omega), by show BF i = _; rw [hBF i hi, if_pos (by omega)]⟩
          · subst z
            rw [if_neg (by omega), if_pos rfl, va_up_self]
            exact ⟨hp0.1, rfl⟩
          · rw [if_neg (by omega), if_neg (by omega), va_up_ne _ _ (by omega)]
            exact ⟨hpl i hi, by show BF i = _; rw [hBF i hi, if_neg (by omega)]⟩
        · unfold rot at e
          have t1 := hinj (i + 1) (j + 1)
          have t2 := hinj (i + 1) 0
          have t3 := hinj (i + 1) j
          have t4 := hinj 0 (j + 1)
          have t5 := hinj 0 j
          have t6 := hinj i (j + 1)
          have t7 := hinj i 0
          have t8 := hinj i j
          split at e <;> split at e <;> (try split at e) <;> (try split at e) <;> first | (have := t1 (by omega) (by omega) e; omega) | (have := t2 (by omega) (by omega) e; omega) | (have := t3 (by omega) (by omega) e; omega) | (have := t4 (by omega) (by omega) e; omega) | (have := t5 (by omega) (by omega) e; omega) | (have := t6 (by omega) (by omega) e; omega) | (have := t7 (by omega) (by omega) e; omega) | (have := t8 (by omega) (by omega) e; omega) | omega
        · have hx8 : r1[i]? = some x := hx9
          have hil : i < r1.length := (List.getElem?_eq_some_iff.mp hx8).1
          unfold rot
          rw [if_pos hil]
          exact hRB.bf.2.2 (i + 1) x (by rw [hbf3]; exact hx8)
      · have hpk := hRB.bf.1 k (by omega)
        refine lv_aload_n hx hb d_W_store_45 rfl (lv_at hl 0 rfl) ?_
        refine w_getr C hI 9 (by decide) k_fl_W_10 rfl 4 rfl d_W_store_46 ?_
        refine lv_iload_n hx hb d_W_store_49 rfl (lv_at hl 2 rfl) ?_
        refine lv_iconst (v := nI 1) hx hb d_W_store_50 (by decide) ?_
        refine an_sub C (by omega) d_W_store_51 ?_
        refine lv_aload_n hx hb d_W_store_52 rfl (lv_at hl 0 rfl) ?_
        refine w_getr C hI 9 (by decide) k_fl_W_10 rfl 4 rfl d_W_store_53 ?_
        refine lv_iload_n hx hb d_W_store_56 rfl (lv_at hl 2 rfl) ?_
        refine w_bf C hI (by omega) (show BF k = some (ad (π k + 7)) by rw [hBF k (by omega), if_neg (by omega)]) d_W_store_57 ?_
        refine w_bfp C hI (i := k - 1) (jv := π k) (by omega) hpk.1 d_W_store_58 (fun H locs BG hBG hI => ?_)
        refine lv_iinc (lv' := [(2, _), (0, _), (1, _)]) hx hb d_W_store_59 hl (k := 2) rfl (nI_inc _) (by decide) rfl (fun ls hl => ?_)
        refine lv_goto (tgt := 37) hx hb d_W_store_62 (by decide) ?_
        refine ih (k + 1) _ _ _ (by omega) ⟨by omega, BG, fun i hi => ?_, hI, lv_sub hl [1, 2, 0] rfl⟩
        rw [hBG]
        show va_up BF (k - 1) _ i = _
        by_cases z : i = k - 1
        · subst z
          rw [va_up_self, if_pos (by omega), show k - 1 + 1 = k by omega]
        · rw [va_up_ne _ _ z, hBF i hi]
          by_cases z2 : i + 1 < k
          · rw [if_pos z2, if_pos (by omega)]
          · rw [if_neg z2, if_neg (by omega)]
    · rw [if_neg (by rw [k2]; decide)] at hres
      refine lv_iconst (v := 0) hx hb d_W_store_33 (by decide) ?_
      exact rt_RWz C hI hr hlk rfl ⟨by rw [hres, k2]; rfl, π, by rw [hres]; exact hR2⟩ d_W_store_34
/-- an entry is set -/
theorem RC.setBf {k : Nat} {e : Nat × Int32 × Bool} {bf : List (Nat × Int32 × Bool)} {WI : Nat → Int32} {EI : Nat → Nat → Int32} (hR : RC ad π nb sp F S) (hk : k < 3) (hb3 : bf.length ≤ 3) (hb : ∀ (j : Nat) (x : Nat × Int32 × Bool), bf[j]? = some x → (j = k ∧ x = e) ∨ (j ≠ k ∧ (fBf F)[j]? = some x)) (h10 : WI 10 = nI bf.length) (hwk : ∀ i, i ≠ 10 → WI i = S.1 i) (hE : ∀ i, i ≠ π k → ∀ a, EI a i = S.2.2.2.2.2.2.2 a i) (e0 : EI 0 (π k) = nI e.1) (e1 : EI 1 (π k) = e.2.1) (e2 : EI 2 (π k) = bI e.2.2) : RC ad π nb sp (fSetBf F bf) (WI, S.2.1, S.2.2.1, S.2.2.2.1, S.2.2.2.2.1, S.2.2.2.2.2.1, S.2.2.2.2.2.2.1, EI) := by
  obtain ⟨hRB, hRH⟩ := hR
  refine ⟨⟨by show WI 0 = _; rw [hwk 0 (by decide)]; exact hRB.sp, by show WI 3 = _; rw [hwk 3 (by decide)]; exact hRB.nx, by show WI 4 = _; rw [hwk 4 (by decide)]; exact hRB.os, by show WI 5 = _; rw [hwk 5 (by decide)]; exact hRB.fu, h10, hRB.op, fun b' hb9 => ⟨(hRB.bi b' hb9).1, (hRB.bi b' hb9).2.1, (hRB.bi b' hb9).2.2.trans (congrArg nI (fVin_congr rfl rfl rfl b'))⟩, hRB.ba, fun q hq => (hRB.pl q hq).trans (congrArg oI (fNew_congr rfl rfl rfl q)), hRB.bf.1, hRB.bf.2.1, fun j x hx9 => ?_⟩, hRH.same (hwk 8 (by decide)) rfl (fun _ => Iff.rfl) (fun _ _ => rfl)⟩
  have hx8 : bf[j]? = some x := hx9
  have hjl : j < bf.length := (List.getElem?_eq_some_iff.mp hx8).1
  rcases hb j x hx8 with ⟨rfl, rfl⟩ | ⟨hne, hx2⟩
  · exact ⟨e0, e1, e2⟩
  · have hpp : π j ≠ π k := fun z => hne (hRB.bf.2.1 j k (by omega) hk z)
    show EI 0 (π j) = _ ∧ EI 1 (π j) = _ ∧ EI 2 (π j) = _
    rw [hE _ hpp, hE _ hpp, hE _ hpp]
    exact hRB.bf.2.2 j x hx2
theorem c_W_put (hG : Geo ad (5 * nb + 10)) (hR : RC ad π nb sp F S) (x v : Int32) (t : Bool) (hO : ChgOK nb sp F x) : RWi l D cs ad (5 * nb + 10) (eC ad cs nb) y_W_put b_W_put 5 (some .int) 7 [.ref (ad 0), .int x, .int v, .int (bI t)] S (fun r u => r = (sChg nb sp F x v t).1 ∧ ∃ π', RC ad π' nb sp (sChg nb sp F x v t).2 u) := by
  refine MC.intro (by decide) (Nat.le_of_ble_eq_true rfl) ?_
  intro p e s m below meth c C hr hlk hnm hH ls hl
  have hI : In D ad (5 * nb + 10) s (eC ad cs nb S) s.heap [] := ⟨hG, hH, va_S.rf⟩
  have hx := C.1.1
  have hb := C.1.2.1
  obtain ⟨hB, hO⟩ := hO
  have h1 := hB.nb
  have h2 := hB.bl
  refine lv_aload_n hx hb d_W_put_0 rfl (lv_at hl 0 rfl) ?_
  refine lv_iload_n hx hb d_W_put_1 rfl (lv_at hl 1 rfl) ?_
  refine wc_ROi C hI (c_W_isSector hG h1.2 x) yv_W_isSector k_ml_W_161 rfl (by decide) rfl hl.1 rfl (Nat.le_of_ble_eq_true rfl) d_W_put_2 ⟨Nat.le_refl _, Nat.le_refl _⟩ (fun r hp => ?_)
  subst hp
  cases hin : inR (4 * (nb - 3)) x with
  | none =>
    refine bb_ne (tgt := 10) C d_W_put_5 (by decide) (fun k1 => ?_) (fun k1 => ?_)
    · cases k1
    · refine lv_iconst (v := -1) hx hb d_W_put_8 (by decide) ?_
      exact rt_RWi C hI hr hlk ⟨by rw [sChg, hin], π, by rw [sChg, hin]; exact hR⟩ d_W_put_9
  | some q =>
    have hO2 := hO q hin
    obtain ⟨hxq, hq⟩ := inR_some (by omega) hin
    subst hxq
    have hres : sChg nb sp F (nI q) v t = (nI (sPut nb sp F q v t).1, (sPut nb sp F q v t).2) := by rw [sChg, hin]
    rw [hres]
    refine W_atH (pc2 := 60) (st2 := []) (fun H locs ls => ∃ (k : Nat) (π9 : Nat → Nat) (S9 : SW) (F9 : Fl) (bf : List (Nat × Int32 × Bool)) (WI : Nat → Int32), k < 3 ∧ bf.length ≤ 3 ∧ RC ad π9 nb sp F9 S9 ∧ WI 10 = nI bf.length ∧ (∀ i, i ≠ 10 → WI i = S9.1 i) ∧ In D ad (5 * nb + 10) s (eC ad cs nb (WI, S9.2)) H locs ∧ (∀ (j : Nat) (x : Nat × Int32 × Bool), bf[j]? = some x → (j = k ∧ x = (q, v, t)) ∨ (j ≠ k ∧ (fBf F9)[j]? = some x)) ∧ sPut nb sp F q v t = (0, fSetBf F9 bf) ∧ lv_has ls 5 [(0, .ref (ad 0)), (1, .int (nI q)), (2, .int v), (3, .int (bI t)), (4, .ref (ad (π9 k + 7)))]) ?_ (fun J => ?_)
    · intro H locs ls ⟨k, π9, S9, F9, bf, WI, hk3, hb3, hR9, hw10, hwk, hI, hbf, hsp, hl⟩
      have hpk := hR9.1.bf.1 k hk3
      refine lv_aload hx hb d_W_put_60 (lv_at hl 4 rfl) ?_
      refine lv_iload_n hx hb d_W_put_62 rfl (lv_at hl 1 rfl) ?_
      refine lv_iload_n hx hb d_W_put_63 rfl (lv_at hl 2 rfl) ?_
      refine lv_iload_n hx hb d_W_put_64 rfl (lv_at hl 3 rfl) ?_
      refine ec_RWv C hI (c_E_set (S := (WI, S9.2)) hG hpk.1 (nI q) v t) yv_E_set k_ml_W_172 rfl hpk.1 (by decide) rfl hl.1 rfl (Nat.le_of_ble_eq_true rfl) d_W_put_65 ⟨Nat.le_refl _, Nat.le_refl _⟩ (fun S1 H locs hp hI => ?_)
      obtain ⟨EI, rfl, hE, e0, e1, e2⟩ := hp
      refine lv_iconst (v := nI 0) hx hb d_W_put_68 (by decide) ?_
      exact rt_RWi C hI hr hlk ⟨by rw [hsp], π9, by rw [hsp]; exact hR9.setBf (e := (q, v, t)) hk3 hb3 hbf hw10 hwk hE e0 e1 e2⟩ d_W_put_69
    · refine bb_ne (tgt := 10) C d_W_put_5 (by decide) (fun k1 => ?_) (fun k1 => ?_)
      · refine lv_aload_n hx hb d_W_put_10 rfl (lv_at hl 0 rfl) ?_
        refine lv_iload_n hx hb d_W_put_11 rfl (lv_at hl 1 rfl) ?_
        refine wc_ROq C hI (c_W_entry hG hR.1 hB hq) yv_W_entry k_ml_W_165 rfl (by decide) rfl hl.1 rfl (Nat.le_of_ble_eq_true rfl) d_W_put_12 ⟨Nat.le_refl _, Nat.le_refl _⟩ (fun r hp => ?_)
        subst hp
        cases hf : bfI (fBf F) q with
        | some k =>
          have hk := bfI_some hf
          refine lv_astore (x := ad (π k + 7)) (lv' := [(4, _), (0, _), (1, _), (2, _), (3, _)]) hx hb d_W_put_15 hl (by decide) rfl (fun ls hl => ?_)
          refine lv_aload hx hb d_W_put_17 (lv_at hl 0 rfl) ?_
          refine lv_ifnonnull (tgt := 60) hx hb d_W_put_19 (by decide) ?_
          exact J _ _ _ ⟨k, π, S, F, (fBf F).set k (q, v, t), S.1, by omega, by rw [List.length_set]; exact h2, hR, by rw [List.length_set]; exact hR.1.bl, fun _ _ => rfl, hI, fun j x hx9 => by
            by_cases z : j = k
            · subst z
              rw [List.getElem?_set_self hk] at hx9
              exact Or.inl ⟨rfl, (Option.some.inj hx9).symm⟩
            · rw [List.getElem?_set_ne (Ne.symm z)] at hx9
              exact Or.inr ⟨z, hx9⟩, by rw [sPut, hf], lv_sub hl [1, 2, 3, 4, 0] rfl⟩
        | none =>
          refine lv_astoreN (lv' := [(4, _), (0, _), (1, _), (2, _), (3, _)]) hx hb d_W_put_15 hl (by decide) rfl (fun ls hl => ?_)
          refine lv_aloadN hx hb d_W_put_17 (lv_at hl 0 rfl) ?_
          refine lv_ifnonnullN hx hb d_W_put_19 ?_
          refine W_atH (pc2 := 42) (st2 := []) (fun H locs ls => ∃ (π9 : Nat → Nat) (S9 : SW) (F9 : Fl), (fBf F9).length < 3 ∧ RC ad π9 nb sp F9 S9 ∧ In D ad (5 * nb + 10) s (eC ad cs nb S9) H locs ∧ sPut nb sp F q v t = (0, fSetBf F9 (fBf F9 ++ [(q, v, t)])) ∧ lv_has ls 5 [(0, .ref (ad 0)), (1, .int (nI q)), (2, .int v), (3, .int (bI t))]) ?_ (fun J2 => ?_)
          · intro H locs ls ⟨π9, S9, F9, hl3, hR9, hI, hsp, hl⟩
            have hpn := hR9.1.bf.1 (fBf F9).length hl3
            refine lv_aload_n hx hb d_W_put_42 rfl (lv_at hl 0 rfl) ?_
            refine w_getr C hI 9 (by decide) k_fl_W_10 rfl 4 rfl d_W_put_43 ?_
            refine lv_aload_n hx hb d_W_put_46 rfl (lv_at hl 0 rfl) ?_
            refine lv_dup hx hb d_W_put_47 rfl ?_
            refine w_geti C hI 10 (by decide) k_fl_W_135 rfl rfl (hR9.1.bl) d_W_put_48 ?_
            refine lv_dup_x1 hx hb d_W_put_51 rfl rfl ?_
            refine lv_iconst (v := nI 1) hx hb d_W_put_52 (by decide) ?_
            refine an_add C d_W_put_53 ?_
            refine w_puti C hI 10 (by omega) k_fl_W_135 rfl rfl rfl rfl d_W_put_54 (fun H locs WJ hWJ hI => ?_)
            refine w_bf C hI hl3 hpn.2 d_W_put_57 ?_
            refine lv_astore (lv' := [(4, _), (0, _), (1, _), (2, _), (3, _)]) hx hb d_W_put_58 hl (by decide) rfl (fun ls hl => ?_)
            exact J _ _ _ ⟨(fBf F9).length, π9, S9, F9, fBf F9 ++ [(q, v, t)], WJ, hl3, by rw [List.length_append, List.length_singleton]; omega, hR9, by rw [hWJ, List.length_append]; rfl, fun i hi => by rw [hWJ, va_up_ne _ _ hi], hI, fun j x hx9 => by
                by_cases z : j = (fBf F9).length
                · subst z
                  rw [List.getElem?_append_right (Nat.le_refl _), Nat.sub_self] at hx9
                  exact Or.inl ⟨rfl, (Option.some.inj hx9).symm⟩
                · have hlt : j < (fBf F9 ++ [(q, v, t)]).length := (List.getElem?_eq_some_iff.mp hx9).1
                  rw [List.length_append, List.length_singleton] at hlt
                  rw [List.getElem?_append_left (by omega)] at hx9
                  exact Or.inr ⟨z, hx9⟩, hsp, lv_sub hl [1, 2, 3, 4, 0] rfl⟩
          · refine lv_aload_n hx hb d_W_put_22 rfl (lv_at hl 1 rfl) ?_
            refine w_geti C hI 10 (by decide) k_fl_W_135 rfl rfl (hR.1.bl) d_W_put_23 ?_
            refine lv_iconst (v := nI 3) hx hb d_W_put_26 (by decide) ?_
            refine bn_ne (tgt := 42) C (by omega) (by omega) d_W_put_27 (by decide) (fun k3 => ?_) (fun k3 => ?_)
            · exact J2 _ _ _ ⟨π, S, F, by omega, hR, hI, by rw [sPut, hf]; dsimp only; rw [if_neg k3], lv_sub hl [1, 2, 3, 4] rfl⟩
            · obtain ⟨hSt, hO3, hO4⟩ := hO2.2 hf k3
              refine lv_aload_n hx hb d_W_put_30 rfl (lv_at hl 1 rfl) ?_
              refine wc_RWi C hI (c_W_store hG hR hSt) yv_W_store k_ml_W_169 rfl (by decide) rfl hl.1 rfl (Nat.le_of_ble_eq_true rfl) d_W_put_31 ⟨Nat.le_refl _, Nat.le_refl _⟩ (fun r S1 H locs hp hI => ?_)
              obtain ⟨rfl, π1, hR1⟩ := hp
              refine bb_ne (tgt := 42) C d_W_put_34 (by decide) (fun k4 => ?_) (fun k4 => ?_)
              · obtain ⟨hB1, hbf1⟩ := hO3 k4
                exact J2 _ _ _ ⟨π1, S1, (sStore nb sp F).2, by rw [hbf1, List.length_tail]; omega, hR1, hI, by rw [sPut, hf]; dsimp only; rw [if_pos k3, if_pos k4], lv_sub hl [1, 2, 3, 4] rfl⟩
              · have hLo := hO4 k4
                refine lv_aload_n hx hb d_W_put_37 rfl (lv_at hl 1 rfl) ?_
                refine wc_RWi C hI (c_W_lost hG hR1 hLo) yv_W_lost k_ml_W_147 rfl (by decide) rfl hl.1 rfl (Nat.le_of_ble_eq_true rfl) d_W_put_38 ⟨Nat.le_refl _, Nat.le_refl _⟩ (fun r S2 H locs hp hI => ?_)
                obtain ⟨rfl, hR2⟩ := hp
                have hsp : sPut nb sp F q v t = (1, sLost nb (sStore nb sp F).2) := by rw [sPut, hf]; dsimp only; rw [if_pos k3, if_neg (by rw [k4]; decide)]
                exact rt_RWi C hI hr hlk ⟨by rw [hsp], π1, by rw [hsp]; exact hR2⟩ d_W_put_41
      · cases k1
theorem c_W_write (hG : Geo ad (5 * nb + 10)) (hR : RC ad π nb sp F S) (x v : Int32) (hO : ChgOK nb sp F x) : RWi l D cs ad (5 * nb + 10) (eC ad cs nb) y_W_write b_W_write 3 (some .int) 8 [.ref (ad 0), .int x, .int v] S (fun r u => r = (sChg nb sp F x v false).1 ∧ ∃ π', RC ad π' nb sp (sChg nb sp F x v false).2 u) := by
  refine MC.intro (by decide) (Nat.le_of_ble_eq_true rfl) ?_
  intro p e s m below meth c C hr hlk hnm hH ls hl
  have hI : In D ad (5 * nb + 10) s (eC ad cs nb S) s.heap [] := ⟨hG, hH, va_S.rf⟩
  have hx := C.1.1
  have hb := C.1.2.1
  refine lv_aload_n hx hb d_W_write_0 rfl (lv_at hl 0 rfl) ?_
  refine lv_iload_n hx hb d_W_write_1 rfl (lv_at hl 1 rfl) ?_
  refine lv_iload_n hx hb d_W_write_2 rfl (lv_at hl 2 rfl) ?_
  refine lv_iconst (v := bI false) hx hb d_W_write_3 (by decide) ?_
  refine wc_RWi C hI (c_W_put hG hR x v false hO) yv_W_put k_ml_W_176 rfl (by decide) rfl hl.1 rfl (Nat.le_of_ble_eq_true rfl) d_W_write_4 ⟨Nat.le_refl _, Nat.le_refl _⟩ (fun r S1 H locs hp hI => ?_)
  exact rt_RWi C hI hr hlk hp d_W_write_7
theorem c_W_trim (hG : Geo ad (5 * nb + 10)) (hR : RC ad π nb sp F S) (x : Int32) (hO : ChgOK nb sp F x) : RWi l D cs ad (5 * nb + 10) (eC ad cs nb) y_W_trim b_W_trim 2 (some .int) 8 [.ref (ad 0), .int x] S (fun r u => r = (sChg nb sp F x 0 true).1 ∧ ∃ π', RC ad π' nb sp (sChg nb sp F x 0 true).2 u) := by
  refine MC.intro (by decide) (Nat.le_of_ble_eq_true rfl) ?_
  intro p e s m below meth c C hr hlk hnm hH ls hl
  have hI : In D ad (5 * nb + 10) s (eC ad cs nb S) s.heap [] := ⟨hG, hH, va_S.rf⟩
  have hx := C.1.1
  have hb := C.1.2.1
  refine lv_aload_n hx hb d_W_trim_0 rfl (lv_at hl 0 rfl) ?_
  refine lv_iload_n hx hb d_W_trim_1 rfl (lv_at hl 1 rfl) ?_
  refine lv_iconst (v := 0) hx hb d_W_trim_2 (by decide) ?_
  refine lv_iconst (v := bI true) hx hb d_W_trim_3 (by decide) ?_
  refine wc_RWi C hI (c_W_put hG hR x 0 true hO) yv_W_put k_ml_W_176 rfl (by decide) rfl hl.1 rfl (Nat.le_of_ble_eq_true rfl) d_W_trim_4 ⟨Nat.le_refl _, Nat.le_refl _⟩ (fun r S1 H locs hp hI => ?_)
  exact rt_RWi C hI hr hlk hp d_W_trim_7
theorem c_W_flush (hG : Geo ad (5 * nb + 10)) (hR : RC ad π nb sp F S) (hO : FlushOK nb sp (fBf F).length F) : RWi l D cs ad (5 * nb + 10) (eC ad cs nb) y_W_flush b_W_flush 1 (some .int) 7 [.ref (ad 0)] S (fun r u => r = nI (sFlush nb sp (fBf F).length F).1 ∧ ∃ π', RC ad π' nb sp (sFlush nb sp (fBf F).length F).2 u) := by
  refine MC.intro (by decide) (Nat.le_of_ble_eq_true rfl) ?_
  intro p e s m below meth c C hr hlk hnm hH ls hl
  have hI : In D ad (5 * nb + 10) s (eC ad cs nb S) s.heap [] := ⟨hG, hH, va_S.rf⟩
  have hx := C.1.1
  have hb := C.1.2.1
  refine W_while (σ := Nat × Fl) (fun x => x.1) (fun x H locs ls => FlushOK nb sp x.1 x.2 ∧ sFlush nb sp x.1 x.2 = sFlush nb sp (fBf F).length F ∧ ∃ π1 S1, RC ad π1 nb sp x.2 S1 ∧ In D ad (5 * nb + 10) s (eC ad cs nb S1) H locs ∧ lv_has ls 1 [(0, .ref (ad 0))]) ?_ ((fBf F).length, F) ⟨hO, rfl, π, S, hR, hI, hl⟩
  intro ⟨n, F1⟩ H locs ls ⟨hO1, hs1, π1, S1, hR1, hI, hl⟩ ih
  dsimp only at hO1 hs1 hR1 ih
  obtain ⟨hB, hn⟩ := hO1.wb
  have h2 := hB.bl
  refine lv_aload_n hx hb d_W_flush_0 rfl (lv_at hl 0 rfl) ?_
  refine w_geti C hI 10 (by decide) k_fl_W_135 rfl rfl (by rw [hR1.1.bl, hn]) d_W_flush_1 ?_
  refine bz_le (tgt := 19) C (by omega) d_W_flush_4 (by decide) (fun k1 => ?_) (fun k1 => ?_)
  · subst k1
    refine lv_iconst (v := nI 0) hx hb d_W_flush_19 (by decide) ?_
    exact rt_RWi C hI hr hlk ⟨by rw [← hs1]; rfl, π1, by rw [← hs1]; exact hR1⟩ d_W_flush_20
  · cases n with
    | zero => omega
    | succ n =>
    obtain ⟨-, -, hSt, hO2, hO3⟩ := hO1
    refine lv_aload_n hx hb d_W_flush_7 rfl (lv_at hl 0 rfl) ?_
    refine wc_RWi C hI (c_W_store hG hR1 hSt) yv_W_store k_ml_W_169 rfl (by decide) rfl hl.1 rfl (Nat.le_of_ble_eq_true rfl) d_W_flush_8 ⟨Nat.le_refl _, Nat.le_refl _⟩ (fun r S2 H locs hp hI => ?_)
    obtain ⟨rfl, π2, hR2⟩ := hp
    refine bb_ne (tgt := 0) C d_W_flush_11 (by decide) (fun k2 => ?_) (fun k2 => ?_)
    · exact ih (n, (sStore nb sp F1).2) _ _ _ (Nat.lt_succ_self n) ⟨hO2 k2, by rw [← hs1, sFlush, if_pos k2], π2, S2, hR2, hI, hl⟩
    · refine lv_aload_n hx hb d_W_flush_14 rfl (lv_at hl 0 rfl) ?_
      refine wc_RWi C hI (c_W_lost hG hR2 (hO3 k2)) yv_W_lost k_ml_W_147 rfl (by decide) rfl hl.1 rfl (Nat.le_of_ble_eq_true rfl) d_W_flush_15 ⟨Nat.le_refl _, Nat.le_refl _⟩ (fun r S3 H locs hp hI => ?_)
      obtain ⟨rfl, hR3⟩ := hp
      have hres : sFlush nb sp (fBf F).length F = (1, sLost nb (sStore nb sp F1).2) := by rw [← hs1, sFlush, if_neg (by rw [k2]; decide)]
      exact rt_RWi C hI hr hlk ⟨by rw [hres], π2, by rw [hres]; exact hR3⟩ d_W_flush_18
end WT
end
section
/-! THE CLASS: what is asked -/
section WA
variable {l : Launch} {D : va_G} {cs : Nat → ClassId} {ad π : Nat → Nat} {nb sp : Nat} {F : Fl} {S : SW}
theorem c_W_sectors (hG : Geo ad (5 * nb + 10)) : ROi l D cs ad (5 * nb + 10) (eC ad cs nb S) y_W_sectors b_W_sectors 1 (some .int) 0 [.ref (ad 0)] (fun r => r = nI (4 * (nb - 3))) := by
  refine MC.intro (by decide) (Nat.le_of_ble_eq_true rfl) ?_
  intro p e s m below meth c C hr hlk hnm hH ls hl
  have hI : In D ad (5 * nb + 10) s (eC ad cs nb S) s.heap [] := ⟨hG, hH, va_S.rf⟩
  have hx := C.1.1
  have hb := C.1.2.1
  refine lv_aload_n hx hb d_W_sectors_0 rfl (lv_at hl 0 rfl) ?_
  refine w_getr C hI 2 (by decide) k_fl_W_42 rfl 2 rfl d_W_sectors_1 ?_
  refine w_plen C hI  d_W_sectors_4 ?_
  exact rt_ROi C hr hlk rfl d_W_sectors_5
theorem c_W_buffered (hG : Geo ad (5 * nb + 10)) (hR : RB ad π nb sp F S) : ROi l D cs ad (5 * nb + 10) (eC ad cs nb S) y_W_buffered b_W_buffered 1 (some .int) 0 [.ref (ad 0)] (fun r => r = nI (fBf F).length) := by
  refine MC.intro (by decide) (Nat.le_of_ble_eq_true rfl) ?_
  intro p e s m below meth c C hr hlk hnm hH ls hl
  have hI : In D ad (5 * nb + 10) s (eC ad cs nb S) s.heap [] := ⟨hG, hH, va_S.rf⟩
  have hx := C.1.1
  have hb := C.1.2.1
  refine lv_aload_n hx hb d_W_buffered_0 rfl (lv_at hl 0 rfl) ?_
  refine w_geti C hI 10 (by decide) k_fl_W_135 rfl rfl (hR.bl) d_W_buffered_1 ?_
  exact rt_ROi C hr hlk rfl d_W_buffered_4
theorem c_W_operations (hG : Geo ad (5 * nb + 10)) (hR : RB ad π nb sp F S) : ROi l D cs ad (5 * nb + 10) (eC ad cs nb S) y_W_operations b_W_operations 1 (some .int) 0 [.ref (ad 0)] (fun r => r = nI (fOs F)) := by
  refine MC.intro (by decide) (Nat.le_of_ble_eq_true rfl) ?_
  intro p e s m below meth c C hr hlk hnm hH ls hl
  have hI : In D ad (5 * nb + 10) s (eC ad cs nb S) s.heap [] := ⟨hG, hH, va_S.rf⟩
  have hx := C.1.1
  have hb := C.1.2.1
  refine lv_aload_n hx hb d_W_operations_0 rfl (lv_at hl 0 rfl) ?_
  refine w_geti C hI 4 (by decide) k_fl_W_59 rfl rfl (hR.os) d_W_operations_1 ?_
  exact rt_ROi C hr hlk rfl d_W_operations_4
theorem c_W_free (hG : Geo ad (5 * nb + 10)) (hR : RC ad π nb sp F S) (ho : ∀ b, fOp F = some b → fUs F b ≠ 0) : ROi l D cs ad (5 * nb + 10) (eC ad cs nb S) y_W_free b_W_free 1 (some .int) 0 [.ref (ad 0)] (fun r => r = nI (fFree nb F)) := by
  refine MC.intro (by decide) (Nat.le_of_ble_eq_true rfl) ?_
  intro p e s m below meth c C hr hlk hnm hH ls hl
  have hI : In D ad (5 * nb + 10) s (eC ad cs nb S) s.heap [] := ⟨hG, hH, va_S.rf⟩
  have hx := C.1.1
  have hb := C.1.2.1
  refine lv_aload_n hx hb d_W_free_0 rfl (lv_at hl 0 rfl) ?_
  refine w_geti C hI 8 (by decide) k_fl_W_49 rfl rfl (hR.2.free ho) d_W_free_1 ?_
  exact rt_ROi C hr hlk rfl d_W_free_4
theorem c_W_open (hG : Geo ad (5 * nb + 10)) (hR : RB ad π nb sp F S) (hB : WB nb sp F) : ROi l D cs ad (5 * nb + 10) (eC ad cs nb S) y_W_open b_W_open 1 (some .int) 0 [.ref (ad 0)] (fun r => r = oI (fOp F)) := by
  refine MC.intro (by decide) (Nat.le_of_ble_eq_true rfl) ?_
  intro p e s m below meth c C hr hlk hnm hH ls hl
  have hI : In D ad (5 * nb + 10) s (eC ad cs nb S) s.heap [] := ⟨hG, hH, va_S.rf⟩
  have hx := C.1.1
  have hb := C.1.2.1
  refine lv_aload_n hx hb d_W_open_0 rfl (lv_at hl 0 rfl) ?_
  cases hop : fOp F with
  | none =>
    refine w_geto C hI k_fl_W_62 (show S.2.1 = none by rw [hR.op, hop]; rfl) d_W_open_1 ?_
    refine lv_ifnonnullN hx hb d_W_open_4 ?_
    refine lv_iconst (v := -1) hx hb d_W_open_7 (by decide) ?_
    refine lv_goto (tgt := 18) hx hb d_W_open_8 (by decide) ?_
    exact rt_ROi C hr hlk rfl d_W_open_18
  | some b =>
    have hbn := hB.op b hop
    refine w_geto C hI k_fl_W_62 (hR.opS hop) d_W_open_1 ?_
    refine lv_ifnonnull (tgt := 11) hx hb d_W_open_4 (by decide) ?_
    refine lv_aload_n hx hb d_W_open_11 rfl (lv_at hl 0 rfl) ?_
    refine w_geto C hI k_fl_W_62 (hR.opS hop) d_W_open_12 ?_
    refine bN_num C hI (by omega) k_fn_W_187 d_W_open_15 ?_
    exact rt_ROi C hr hlk rfl d_W_open_18
theorem c_W_place (hG : Geo ad (5 * nb + 10)) (hR : RB ad π nb sp F S) (hB : WB nb sp F) (x : Int32) : ROi l D cs ad (5 * nb + 10) (eC ad cs nb S) y_W_place b_W_place 2 (some .int) 1 [.ref (ad 0), .int x] (fun r => r = sPlace nb F x) := by
  refine MC.intro (by decide) (Nat.le_of_ble_eq_true rfl) ?_
  intro p e s m below meth c C hr hlk hnm hH ls hl
  have hI : In D ad (5 * nb + 10) s (eC ad cs nb S) s.heap [] := ⟨hG, hH, va_S.rf⟩
  have hx := C.1.1
  have hb := C.1.2.1
  have h1 := hB.nb
  refine lv_aload_n hx hb d_W_place_0 rfl (lv_at hl 0 rfl) ?_
  refine lv_iload_n hx hb d_W_place_1 rfl (lv_at hl 1 rfl) ?_
  refine wc_ROi C hI (c_W_isSector hG h1.2 x) yv_W_isSector k_ml_W_161 rfl (by decide) rfl hl.1 rfl (Nat.le_of_ble_eq_true rfl) d_W_place_2 ⟨Nat.le_refl _, Nat.le_refl _⟩ (fun r hp => ?_)
  subst hp
  cases hin : inR (4 * (nb - 3)) x with
  | none =>
    refine bb_eq (tgt := 17) C d_W_place_5 (by decide) (fun k1 => ?_) (fun k1 => ?_)
    · refine lv_iconst (v := -1) hx hb d_W_place_17 (by decide) ?_
      exact rt_ROi C hr hlk (by rw [sPlace, hin]) d_W_place_18
    · cases k1
  | some q =>
    obtain ⟨hxq, hq⟩ := inR_some (by omega) hin
    subst hxq
    refine bb_eq (tgt := 17) C d_W_place_5 (by decide) (fun k1 => ?_) (fun k1 => ?_)
    · cases k1
    · refine lv_aload_n hx hb d_W_place_8 rfl (lv_at hl 0 rfl) ?_
      refine w_getr C hI 2 (by decide) k_fl_W_42 rfl 2 rfl d_W_place_9 ?_
      refine lv_iload_n hx hb d_W_place_12 rfl (lv_at hl 1 rfl) ?_
      refine w_pl C hI hq (by omega) (hR.pl q hq) d_W_place_13 ?_
      refine lv_goto (tgt := 18) hx hb d_W_place_14 (by decide) ?_
      exact rt_ROi C hr hlk (by rw [sPlace, hin]) d_W_place_18
theorem c_W_programmed (hG : Geo ad (5 * nb + 10)) (hR : RB ad π nb sp F S) (hB : WB nb sp F) (x : Int32) : ROq l D cs ad (5 * nb + 10) (eC ad cs nb S) y_W_programmed b_W_programmed 3 (some (.object "WornFlash$Block")) 0 [.ref (ad 0), .int x] (fun r => r = match inR (4 * nb) x with | none => none | some p => if prg F p then some (ad (5 * (p / 4) + 10)) else none) := by
  refine MC.intro (by decide) (Nat.le_of_ble_eq_true rfl) ?_
  intro p e s m below meth c C hr hlk hnm hH ls hl
  have hI : In D ad (5 * nb + 10) s (eC ad cs nb S) s.heap [] := ⟨hG, hH, va_S.rf⟩
  have hx := C.1.1
  have hb := C.1.2.1
  have h1 := hB.nb
  refine W_if (P := inR (4 * nb) x = none) (g2 := F0 m 15 ls []) (fun hn => ?_) (fun J => ?_)
  · refine lv_null hx hb d_W_programmed_15 ?_
    exact rt_ROq (v := none) C hr hlk (by rw [hn]) d_W_programmed_16
  · refine lv_iload_n hx hb d_W_programmed_0 rfl (lv_at hl 1 rfl) ?_
    refine lv_if_lt (tgt := 15) hx hb d_W_programmed_1 (by decide) (fun k1 => ?_) (fun k1 => ?_)
    · exact J (inR_neg k1)
    · refine lv_iload_n hx hb d_W_programmed_4 rfl (lv_at hl 1 rfl) ?_
      refine lv_iconst (v := nI 4) hx hb d_W_programmed_5 (by decide) ?_
      refine lv_aload_n hx hb d_W_programmed_6 rfl (lv_at hl 0 rfl) ?_
      refine w_getr C hI 1 (by decide) k_fl_W_35 rfl 1 rfl d_W_programmed_7 ?_
      refine w_blen C hI  d_W_programmed_10 ?_
      refine an_mul C d_W_programmed_11 ?_
      refine lv_icmp_lt (tgt := 17) hx hb d_W_programmed_12 (by decide) (fun k2 => ?_) (fun k2 => ?_)
      · obtain ⟨p9, hp9, rfl, e1⟩ := inR_ok (N := 4 * nb) (x := x) (by omega) k1 (fun z => by
          have z1 := Int32.lt_iff_toInt_lt.mp k2
          have z2 := Int32.le_iff_toInt_le.mp z
          omega)
        have hbi := hR.bi (p9 / 4) (by omega)
        have hu9 := hB.us (p9 / 4) (by omega)
        refine lv_aload_n hx hb d_W_programmed_17 rfl (lv_at hl 0 rfl) ?_
        refine w_getr C hI 1 (by decide) k_fl_W_35 rfl 1 rfl d_W_programmed_18 ?_
        refine lv_iload_n hx hb d_W_programmed_21 rfl (lv_at hl 1 rfl) ?_
        refine lv_iconst (v := nI 4) hx hb d_W_programmed_22 (by decide) ?_
        refine an_div C (by omega) (by omega) (by omega) d_W_programmed_23 ?_
        refine w_blk C hI (show p9 / 4 < nb by omega) (by omega) d_W_programmed_24 ?_
        refine lv_astore_n (lv' := [(2, _), (0, _), (1, _)]) hx hb d_W_programmed_25 rfl hl (by decide) rfl (fun ls hl => ?_)
        refine lv_iload_n hx hb d_W_programmed_26 rfl (lv_at hl 2 rfl) ?_
        refine lv_iconst (v := nI 4) hx hb d_W_programmed_27 (by decide) ?_
        refine an_rem C (by omega) (by omega) (by omega) d_W_programmed_28 ?_
        refine lv_aload_n hx hb d_W_programmed_29 rfl (lv_at hl 0 rfl) ?_
        refine bN_geti C hI 2 (by decide) (by omega) k_fn_W_73 (hbi.2.1) d_W_programmed_30 ?_
        refine bn_ge (tgt := 40) C (by omega) (by omega) d_W_programmed_33 (by decide) (fun k3 => ?_) (fun k3 => ?_)
        · refine lv_null hx hb d_W_programmed_40 ?_
          exact rt_ROq (v := none) C hr hlk (by rw [e1]; dsimp only; rw [if_neg (by unfold prg; simp; omega)]) d_W_programmed_41
        · refine lv_aload_n hx hb d_W_programmed_36 rfl (lv_at hl 0 rfl) ?_
          refine lv_goto (tgt := 41) hx hb d_W_programmed_37 (by decide) ?_
          exact rt_ROq (v := some (ad (5 * (p9 / 4) + 10))) C hr hlk (by rw [e1]; dsimp only; rw [if_pos (by unfold prg; simp; omega)]) d_W_programmed_41
      · refine J ?_
        rcases pk_ix x (n := 4 * nb) (by omega) with z | z | ⟨j, hj, rfl⟩
        · exact absurd z k1
        · exact inR_big (by omega) z
        · exact absurd (nI_lt hj (by omega)) k2
theorem c_W_tag (hG : Geo ad (5 * nb + 10)) (hR : RB ad π nb sp F S) (hB : WB nb sp F) (x : Int32) : ROi l D cs ad (5 * nb + 10) (eC ad cs nb S) y_W_tag b_W_tag 3 (some .int) 1 [.ref (ad 0), .int x] (fun r => r = sTag nb F x) := by
  refine MC.intro (by decide) (Nat.le_of_ble_eq_true rfl) ?_
  intro p e s m below meth c C hr hlk hnm hH ls hl
  have hI : In D ad (5 * nb + 10) s (eC ad cs nb S) s.heap [] := ⟨hG, hH, va_S.rf⟩
  have hx := C.1.1
  have hb := C.1.2.1
  have h1 := hB.nb
  refine lv_aload_n hx hb d_W_tag_0 rfl (lv_at hl 0 rfl) ?_
  refine lv_iload_n hx hb d_W_tag_1 rfl (lv_at hl 1 rfl) ?_
  refine wc_ROq C hI (c_W_programmed hG hR hB x) yv_W_programmed k_ml_W_180 rfl (by decide) rfl hl.1 rfl (Nat.le_of_ble_eq_true rfl) d_W_tag_2 ⟨Nat.le_refl _, Nat.le_refl _⟩ (fun r hp => ?_)
  refine W_if (P := sTag nb F x = -1) (g2 := F0 m 10 ls []) (fun hn => ?_) (fun J => ?_)
  · refine lv_iconst (v := -1) hx hb d_W_tag_10 (by decide) ?_
    refine lv_goto (tgt := 22) hx hb d_W_tag_11 (by decide) ?_
    exact rt_ROi C hr hlk hn.symm d_W_tag_22
  · cases hin : inR (4 * nb) x with
    | none =>
      rw [hin] at hp
      dsimp only at hp
      subst hp
      refine lv_astore_nN (lv' := [(2, _), (0, _), (1, _)]) hx hb d_W_tag_5 rfl hl (by decide) rfl (fun ls hl => ?_)
      refine lv_aload_nN hx hb d_W_tag_6 rfl (lv_at hl 0 rfl) ?_
      refine lv_ifnonnullN hx hb d_W_tag_7 ?_
      refine lv_iconst (v := -1) hx hb d_W_tag_10 (by decide) ?_
      refine lv_goto (tgt := 22) hx hb d_W_tag_11 (by decide) ?_
      exact rt_ROi C hr hlk (by rw [sTag, hin]) d_W_tag_22
    | some p9 =>
      obtain ⟨hxq, hq⟩ := inR_some (by omega) hin
      subst hxq
      rw [hin] at hp
      dsimp only at hp
      by_cases hpg : prg F p9 = true
      · rw [if_pos hpg] at hp
        subst hp
        have hba := hR.ba (p9 / 4) (p9 % 4) (by omega) (by unfold prg at hpg; simpa using hpg)
        rw [show 4 * (p9 / 4) + p9 % 4 = p9 by omega] at hba
        refine lv_astore_n (lv' := [(2, _), (0, _), (1, _)]) hx hb d_W_tag_5 rfl hl (by decide) rfl (fun ls hl => ?_)
        refine lv_aload_n hx hb d_W_tag_6 rfl (lv_at hl 0 rfl) ?_
        refine lv_ifnonnull (tgt := 14) hx hb d_W_tag_7 (by decide) ?_
        refine lv_aload_n hx hb d_W_tag_14 rfl (lv_at hl 0 rfl) ?_
        refine bN_getr C hI 0 (by decide) (by omega) k_fn_W_76 d_W_tag_15 ?_
        refine lv_iload_n hx hb d_W_tag_18 rfl (lv_at hl 2 rfl) ?_
        refine lv_iconst (v := nI 4) hx hb d_W_tag_19 (by decide) ?_
        refine an_rem C (by omega) (by omega) (by omega) d_W_tag_20 ?_
        refine bs_ald C hI (by omega) (by omega) hba.1 d_W_tag_21 ?_
        exact rt_ROi C hr hlk (by rw [sTag, hin]; dsimp only; rw [if_pos hpg]) d_W_tag_22
      · rw [if_neg hpg] at hp
        subst hp
        refine lv_astore_nN (lv' := [(2, _), (0, _), (1, _)]) hx hb d_W_tag_5 rfl hl (by decide) rfl (fun ls hl => ?_)
        refine lv_aload_nN hx hb d_W_tag_6 rfl (lv_at hl 0 rfl) ?_
        refine lv_ifnonnullN hx hb d_W_tag_7 ?_
        refine lv_iconst (v := -1) hx hb d_W_tag_10 (by decide) ?_
        refine lv_goto (tgt := 22) hx hb d_W_tag_11 (by decide) ?_
        exact rt_ROi C hr hlk (by rw [sTag, hin]; dsimp only; rw [if_neg hpg]) d_W_tag_22
theorem c_W_serial (hG : Geo ad (5 * nb + 10)) (hR : RB ad π nb sp F S) (hB : WB nb sp F) (x : Int32) : ROi l D cs ad (5 * nb + 10) (eC ad cs nb S) y_W_serial b_W_serial 3 (some .int) 1 [.ref (ad 0), .int x] (fun r => r = sSerial nb F x) := by
  refine MC.intro (by decide) (Nat.le_of_ble_eq_true rfl) ?_
  intro p e s m below meth c C hr hlk hnm hH ls hl
  have hI : In D ad (5 * nb + 10) s (eC ad cs nb S) s.heap [] := ⟨hG, hH, va_S.rf⟩
  have hx := C.1.1
  have hb := C.1.2.1
  have h1 := hB.nb
  refine lv_aload_n hx hb d_W_serial_0 rfl (lv_at hl 0 rfl) ?_
  refine lv_iload_n hx hb d_W_serial_1 rfl (lv_at hl 1 rfl) ?_
  refine wc_ROq C hI (c_W_programmed hG hR hB x) yv_W_programmed k_ml_W_180 rfl (by decide) rfl hl.1 rfl (Nat.le_of_ble_eq_true rfl) d_W_serial_2 ⟨Nat.le_refl _, Nat.le_refl _⟩ (fun r hp => ?_)
  refine W_if (P := sSerial nb F x = -1) (g2 := F0 m 10 ls []) (fun hn => ?_) (fun J => ?_)
  · refine lv_iconst (v := -1) hx hb d_W_serial_10 (by decide) ?_
    refine lv_goto (tgt := 22) hx hb d_W_serial_11 (by decide) ?_
    exact rt_ROi C hr hlk hn.symm d_W_serial_22
  · cases hin : inR (4 * nb) x with
    | none =>
      rw [hin] at hp
      dsimp only at hp
      subst hp
      refine lv_astore_nN (lv' := [(2, _), (0, _), (1, _)]) hx hb d_W_serial_5 rfl hl (by decide) rfl (fun ls hl => ?_)
      refine lv_aload_nN hx hb d_W_serial_6 rfl (lv_at hl 0 rfl) ?_
      refine lv_ifnonnullN hx hb d_W_serial_7 ?_
      refine lv_iconst (v := -1) hx hb d_W_serial_10 (by decide) ?_
      refine lv_goto (tgt := 22) hx hb d_W_serial_11 (by decide) ?_
      exact rt_ROi C hr hlk (by rw [sSerial, hin]) d_W_serial_22
    | some p9 =>
      obtain ⟨hxq, hq⟩ := inR_some (by omega) hin
      subst hxq
      rw [hin] at hp
      dsimp only at hp
      by_cases hpg : prg F p9 = true
      · rw [if_pos hpg] at hp
        subst hp
        have hba := hR.ba (p9 / 4) (p9 % 4) (by omega) (by unfold prg at hpg; simpa using hpg)
        rw [show 4 * (p9 / 4) + p9 % 4 = p9 by omega] at hba
        refine lv_astore_n (lv' := [(2, _), (0, _), (1, _)]) hx hb d_W_serial_5 rfl hl (by decide) rfl (fun ls hl => ?_)
        refine lv_aload_n hx hb d_W_serial_6 rfl (lv_at hl 0 rfl) ?_
        refine lv_ifnonnull (tgt := 14) hx hb d_W_serial_7 (by decide) ?_
        refine lv_aload_n hx hb d_W_serial_14 rfl (lv_at hl 0 rfl) ?_
        refine bN_getr C hI 2 (by decide) (by omega) k_fn_W_87 d_W_serial_15 ?_
        refine lv_iload_n hx hb d_W_serial_18 rfl (lv_at hl 2 rfl) ?_
        refine lv_iconst (v := nI 4) hx hb d_W_serial_19 (by decide) ?_
        refine an_rem C (by omega) (by omega) (by omega) d_W_serial_20 ?_
        refine br_ald C hI (by omega) (by omega) hba.2.2.1 d_W_serial_21 ?_
        exact rt_ROi C hr hlk (by rw [sSerial, hin]; dsimp only; rw [if_pos hpg]) d_W_serial_22
      · rw [if_neg hpg] at hp
        subst hp
        refine lv_astore_nN (lv' := [(2, _), (0, _), (1, _)]) hx hb d_W_serial_5 rfl hl (by decide) rfl (fun ls hl => ?_)
        refine lv_aload_nN hx hb d_W_serial_6 rfl (lv_at hl 0 rfl) ?_
        refine lv_ifnonnullN hx hb d_W_serial_7 ?_
        refine lv_iconst (v := -1) hx hb d_W_serial_10 (by decide) ?_
        refine lv_goto (tgt := 22) hx hb d_W_serial_11 (by decide) ?_
        exact rt_ROi C hr hlk (by rw [sSerial, hin]; dsimp only; rw [if_neg hpg]) d_W_serial_22
theorem c_W_valid (hG : Geo ad (5 * nb + 10)) (hR : RB ad π nb sp F S) (hB : WB nb sp F) (x : Int32) : ROi l D cs ad (5 * nb + 10) (eC ad cs nb S) y_W_valid b_W_valid 2 (some .int) 1 [.ref (ad 0), .int x] (fun r => r = sValid nb F x) := by
  refine MC.intro (by decide) (Nat.le_of_ble_eq_true rfl) ?_
  intro p e s m below meth c C hr hlk hnm hH ls hl
  have hI : In D ad (5 * nb + 10) s (eC ad cs nb S) s.heap [] := ⟨hG, hH, va_S.rf⟩
  have hx := C.1.1
  have hb := C.1.2.1
  have h1 := hB.nb
  refine lv_aload_n hx hb d_W_valid_0 rfl (lv_at hl 0 rfl) ?_
  refine lv_iload_n hx hb d_W_valid_1 rfl (lv_at hl 1 rfl) ?_
  refine wc_ROi C hI (c_W_isBlock hG h1.2 x) yv_W_isBlock k_ml_W_184 rfl (by decide) rfl hl.1 rfl (Nat.le_of_ble_eq_true rfl) d_W_valid_2 ⟨Nat.le_refl _, Nat.le_refl _⟩ (fun r hp => ?_)
  subst hp
  cases hin : inR nb x with
  | none =>
    refine bb_eq (tgt := 20) C d_W_valid_5 (by decide) (fun k1 => ?_) (fun k1 => ?_)
    · refine lv_iconst (v := -1) hx hb d_W_valid_20 (by decide) ?_
      exact rt_ROi C hr hlk (by rw [sValid, hin]) d_W_valid_21
    · cases k1
  | some q =>
    obtain ⟨hxq, hq⟩ := inR_some (by omega) hin
    subst hxq
    refine bb_eq (tgt := 20) C d_W_valid_5 (by decide) (fun k1 => ?_) (fun k1 => ?_)
    · cases k1
    · refine lv_aload_n hx hb d_W_valid_8 rfl (lv_at hl 0 rfl) ?_
      refine w_getr C hI 1 (by decide) k_fl_W_35 rfl 1 rfl d_W_valid_9 ?_
      refine lv_iload_n hx hb d_W_valid_12 rfl (lv_at hl 1 rfl) ?_
      refine w_blk C hI hq (by omega) d_W_valid_13 ?_
      refine bN_geti C hI 3 (by decide) (by omega) k_fn_W_93 ((hR.bi q hq).2.2) d_W_valid_14 ?_
      refine lv_goto (tgt := 21) hx hb d_W_valid_17 (by decide) ?_
      exact rt_ROi C hr hlk (by rw [sValid, hin]) d_W_valid_21
theorem c_W_erasures (hG : Geo ad (5 * nb + 10)) (hR : RB ad π nb sp F S) (hB : WB nb sp F) (x : Int32) : ROi l D cs ad (5 * nb + 10) (eC ad cs nb S) y_W_erasures b_W_erasures 2 (some .int) 1 [.ref (ad 0), .int x] (fun r => r = sErasures nb F x) := by
  refine MC.intro (by decide) (Nat.le_of_ble_eq_true rfl) ?_
  intro p e s m below meth c C hr hlk hnm hH ls hl
  have hI : In D ad (5 * nb + 10) s (eC ad cs nb S) s.heap [] := ⟨hG, hH, va_S.rf⟩
  have hx := C.1.1
  have hb := C.1.2.1
  have h1 := hB.nb
  refine lv_aload_n hx hb d_W_erasures_0 rfl (lv_at hl 0 rfl) ?_
  refine lv_iload_n hx hb d_W_erasures_1 rfl (lv_at hl 1 rfl) ?_
  refine wc_ROi C hI (c_W_isBlock hG h1.2 x) yv_W_isBlock k_ml_W_184 rfl (by decide) rfl hl.1 rfl (Nat.le_of_ble_eq_true rfl) d_W_erasures_2 ⟨Nat.le_refl _, Nat.le_refl _⟩ (fun r hp => ?_)
  subst hp
  cases hin : inR nb x with
  | none =>
    refine bb_eq (tgt := 20) C d_W_erasures_5 (by decide) (fun k1 => ?_) (fun k1 => ?_)
    · refine lv_iconst (v := -1) hx hb d_W_erasures_20 (by decide) ?_
      exact rt_ROi C hr hlk (by rw [sErasures, hin]) d_W_erasures_21
    · cases k1
  | some q =>
    obtain ⟨hxq, hq⟩ := inR_some (by omega) hin
    subst hxq
    refine bb_eq (tgt := 20) C d_W_erasures_5 (by decide) (fun k1 => ?_) (fun k1 => ?_)
    · cases k1
    · refine lv_aload_n hx hb d_W_erasures_8 rfl (lv_at hl 0 rfl) ?_
      refine w_getr C hI 1 (by decide) k_fl_W_35 rfl 1 rfl d_W_erasures_9 ?_
      refine lv_iload_n hx hb d_W_erasures_12 rfl (lv_at hl 1 rfl) ?_
      refine w_blk C hI hq (by omega) d_W_erasures_13 ?_
      refine bN_geti C hI 1 (by decide) (by omega) k_fn_W_100 ((hR.bi q hq).1) d_W_erasures_14 ?_
      refine lv_goto (tgt := 21) hx hb d_W_erasures_17 (by decide) ?_
      exact rt_ROi C hr hlk (by rw [sErasures, hin]) d_W_erasures_21
theorem fNew_ba (hR : RB ad π nb sp F S) {q p : Nat} (h : fNew nb F q = some p) : p / 4 < nb ∧ S.2.2.2.1 1 (p / 4) (p % 4) = fVl F p ∧ S.2.2.2.1 3 (p / 4) (p % 4) = bI (fTr F p) := by
  obtain ⟨a1, a2, -⟩ := fNew_some h
  have hb9 : p / 4 < nb := by omega
  have hba := hR.ba (p / 4) (p % 4) hb9 (by unfold prg at a2; simpa using a2)
  rw [show 4 * (p / 4) + p % 4 = p by omega] at hba
  exact ⟨hb9, hba.2.1, hba.2.2.2⟩
theorem c_W_read (hG : Geo ad (5 * nb + 10)) (hR : RB ad π nb sp F S) (hB : WB nb sp F) (x : Int32) : ROi l D cs ad (5 * nb + 10) (eC ad cs nb S) y_W_read b_W_read 4 (some .int) 1 [.ref (ad 0), .int x] (fun r => r = sRead nb F x) := by
  refine MC.intro (by decide) (Nat.le_of_ble_eq_true rfl) ?_
  intro p e s m below meth c C hr hlk hnm hH ls hl
  have hI : In D ad (5 * nb + 10) s (eC ad cs nb S) s.heap [] := ⟨hG, hH, va_S.rf⟩
  have hx := C.1.1
  have hb := C.1.2.1
  have h1 := hB.nb
  have h2 := hB.bl
  refine lv_aload_n hx hb d_W_read_0 rfl (lv_at hl 0 rfl) ?_
  refine lv_iload_n hx hb d_W_read_1 rfl (lv_at hl 1 rfl) ?_
  refine wc_ROi C hI (c_W_isSector hG h1.2 x) yv_W_isSector k_ml_W_161 rfl (by decide) rfl hl.1 rfl (Nat.le_of_ble_eq_true rfl) d_W_read_2 ⟨Nat.le_refl _, Nat.le_refl _⟩ (fun r hp => ?_)
  subst hp
  cases hin : inR (4 * (nb - 3)) x with
  | none =>
    refine bb_ne (tgt := 10) C d_W_read_5 (by decide) (fun k1 => ?_) (fun k1 => ?_)
    · cases k1
    · refine lv_iconst (v := 0) hx hb d_W_read_8 (by decide) ?_
      exact rt_ROi C hr hlk (by rw [sRead, hin]) d_W_read_9
  | some q =>
    obtain ⟨hxq, hq⟩ := inR_some (by omega) hin
    subst hxq
    refine bb_ne (tgt := 10) C d_W_read_5 (by decide) (fun k1 => ?_) (fun k1 => ?_)
    · refine lv_aload_n hx hb d_W_read_10 rfl (lv_at hl 0 rfl) ?_
      refine lv_iload_n hx hb d_W_read_11 rfl (lv_at hl 1 rfl) ?_
      refine wc_ROq C hI (c_W_entry hG hR hB hq) yv_W_entry k_ml_W_165 rfl (by decide) rfl hl.1 rfl (Nat.le_of_ble_eq_true rfl) d_W_read_12 ⟨Nat.le_refl _, Nat.le_refl _⟩ (fun r hp => ?_)
      subst hp
      cases hf : bfI (fBf F) q with
      | some k =>
        have hk := bfI_some hf
        have he : (fBf F)[k]? = some (fBf F)[k] := List.getElem?_eq_getElem hk
        have hpk := hR.bf.1 k (by omega)
        refine lv_astore_n (x := ad (π k + 7)) (lv' := [(2, _), (0, _), (1, _)]) hx hb d_W_read_15 rfl hl (by decide) rfl (fun ls hl => ?_)
        refine lv_aload_n hx hb d_W_read_16 rfl (lv_at hl 0 rfl) ?_
        refine lv_ifnull hx hb d_W_read_17 ?_
        refine lv_aload_n hx hb d_W_read_20 rfl (lv_at hl 0 rfl) ?_
        refine eN_geti C hI 1 (by decide) hpk.1 k_fn_W_156 (hR.bf.2.2 _ _ he).2.1 d_W_read_21 ?_
        exact rt_ROi C hr hlk (by rw [sRead, hin]; dsimp only; rw [hf]; dsimp only; rw [List.getD_eq_getElem?_getD, he]; rfl) d_W_read_24
      | none =>
        refine lv_astore_nN (lv' := [(2, _), (0, _), (1, _)]) hx hb d_W_read_15 rfl hl (by decide) rfl (fun ls hl => ?_)
        refine lv_aload_nN hx hb d_W_read_16 rfl (lv_at hl 0 rfl) ?_
        refine lv_ifnullN (tgt := 25) hx hb d_W_read_17 (by decide) ?_
        refine lv_aload_n hx hb d_W_read_25 rfl (lv_at hl 1 rfl) ?_
        refine w_getr C hI 2 (by decide) k_fl_W_42 rfl 2 rfl d_W_read_26 ?_
        refine lv_iload_n hx hb d_W_read_29 rfl (lv_at hl 2 rfl) ?_
        refine w_pl C hI hq (by omega) (hR.pl q hq) d_W_read_30 ?_
        refine lv_istore_n (lv' := [(3, _), (2, _), (0, _), (1, _)]) hx hb d_W_read_31 rfl hl (by decide) rfl (fun ls hl => ?_)
        refine lv_iload_n hx hb d_W_read_32 rfl (lv_at hl 0 rfl) ?_
        refine lv_iconst (v := -1) hx hb d_W_read_33 (by decide) ?_
        refine bo_ne (tgt := 41) C (fun j hj => by have := (bst_lt hj).1; omega) d_W_read_34 (by decide) (fun j34 k2 => ?_) (fun k2 => ?_)
        · obtain ⟨hb9, hv9, -⟩ := fNew_ba hR k2
          have hj9 := (bst_lt k2).1
          refine lv_aload_n hx hb d_W_read_41 rfl (lv_at hl 2 rfl) ?_
          refine w_getr C hI 1 (by decide) k_fl_W_35 rfl 1 rfl d_W_read_42 ?_
          refine lv_iload_n (x := nI j34) hx hb d_W_read_45 rfl (by rw [← oI_some, ← k2]; exact lv_at hl 0 rfl) ?_
          refine lv_iconst (v := nI 4) hx hb d_W_read_46 (by decide) ?_
          refine an_div C (by omega) (by omega) (by omega) d_W_read_47 ?_
          refine w_blk C hI hb9 (by omega) d_W_read_48 ?_
          refine bN_getr C hI 1 (by decide) (by omega) k_fn_W_79 d_W_read_49 ?_
          refine lv_iload_n (x := nI j34) hx hb d_W_read_52 rfl (by rw [← oI_some, ← k2]; exact lv_at hl 0 rfl) ?_
          refine lv_iconst (v := nI 4) hx hb d_W_read_53 (by decide) ?_
          refine an_rem C (by omega) (by omega) (by omega) d_W_read_54 ?_
          refine bv_ald C hI hb9 (by omega) hv9 d_W_read_55 ?_
          exact rt_ROi C hr hlk (by rw [sRead, hin]; dsimp only; rw [hf]; dsimp only; rw [k2]) d_W_read_56
        · refine lv_iconst (v := 0) hx hb d_W_read_37 (by decide) ?_
          refine lv_goto (tgt := 56) hx hb d_W_read_38 (by decide) ?_
          exact rt_ROi C hr hlk (by rw [sRead, hin]; dsimp only; rw [hf]; dsimp only; rw [k2]) d_W_read_56
    · cases k1
theorem c_W_holds (hG : Geo ad (5 * nb + 10)) (hR : RB ad π nb sp F S) (hB : WB nb sp F) (x : Int32) : ROi l D cs ad (5 * nb + 10) (eC ad cs nb S) y_W_holds b_W_holds 4 (some .int) 1 [.ref (ad 0), .int x] (fun r => r = sHolds nb F x) := by
  refine MC.intro (by decide) (Nat.le_of_ble_eq_true rfl) ?_
  intro p e s m below meth c C hr hlk hnm hH ls hl
  have hI : In D ad (5 * nb + 10) s (eC ad cs nb S) s.heap [] := ⟨hG, hH, va_S.rf⟩
  have hx := C.1.1
  have hb := C.1.2.1
  have h1 := hB.nb
  have h2 := hB.bl
  refine lv_aload_n hx hb d_W_holds_0 rfl (lv_at hl 0 rfl) ?_
  refine lv_iload_n hx hb d_W_holds_1 rfl (lv_at hl 1 rfl) ?_
  refine wc_ROi C hI (c_W_isSector hG h1.2 x) yv_W_isSector k_ml_W_161 rfl (by decide) rfl hl.1 rfl (Nat.le_of_ble_eq_true rfl) d_W_holds_2 ⟨Nat.le_refl _, Nat.le_refl _⟩ (fun r hp => ?_)
  subst hp
  cases hin : inR (4 * (nb - 3)) x with
  | none =>
    refine bb_ne (tgt := 10) C d_W_holds_5 (by decide) (fun k1 => ?_) (fun k1 => ?_)
    · cases k1
    · refine lv_iconst (v := 0) hx hb d_W_holds_8 (by decide) ?_
      exact rt_ROi C hr hlk (by rw [sHolds, hin]) d_W_holds_9
  | some q =>
    obtain ⟨hxq, hq⟩ := inR_some (by omega) hin
    subst hxq
    refine bb_ne (tgt := 10) C d_W_holds_5 (by decide) (fun k1 => ?_) (fun k1 => ?_)
    · refine lv_aload_n hx hb d_W_holds_10 rfl (lv_at hl 0 rfl) ?_
      refine lv_iload_n hx hb d_W_holds_11 rfl (lv_at hl 1 rfl) ?_
      refine wc_ROq C hI (c_W_entry hG hR hB hq) yv_W_entry k_ml_W_165 rfl (by decide) rfl hl.1 rfl (Nat.le_of_ble_eq_true rfl) d_W_holds_12 ⟨Nat.le_refl _, Nat.le_refl _⟩ (fun r hp => ?_)
      subst hp
      cases hf : bfI (fBf F) q with
      | some k =>
        have hk := bfI_some hf
        have he : (fBf F)[k]? = some (fBf F)[k] := List.getElem?_eq_getElem hk
        have hpk := hR.bf.1 k (by omega)
        have hsp : sHolds nb F (nI q) = sI (fBf F)[k].2.2 := by rw [sHolds, hin]; dsimp only; rw [hf]; dsimp only; rw [List.getD_eq_getElem?_getD, he]; rfl
        refine lv_astore_n (x := ad (π k + 7)) (lv' := [(2, _), (0, _), (1, _)]) hx hb d_W_holds_15 rfl hl (by decide) rfl (fun ls hl => ?_)
        refine lv_aload_n hx hb d_W_holds_16 rfl (lv_at hl 1 rfl) ?_
        refine w_getr C hI 2 (by decide) k_fl_W_42 rfl 2 rfl d_W_holds_17 ?_
        refine lv_iload_n hx hb d_W_holds_20 rfl (lv_at hl 2 rfl) ?_
        refine w_pl C hI hq (by omega) (hR.pl q hq) d_W_holds_21 ?_
        refine lv_istore_n (lv' := [(3, _), (2, _), (0, _), (1, _)]) hx hb d_W_holds_22 rfl hl (by decide) rfl (fun ls hl => ?_)
        refine lv_aload_n hx hb d_W_holds_23 rfl (lv_at hl 1 rfl) ?_
        refine lv_ifnonnull (tgt := 34) hx hb d_W_holds_24 (by decide) ?_
        refine lv_aload_n hx hb d_W_holds_34 rfl (lv_at hl 1 rfl) ?_
        refine lv_ifnull hx hb d_W_holds_35 ?_
        refine lv_aload_n hx hb d_W_holds_38 rfl (lv_at hl 1 rfl) ?_
        refine eN_geti C hI 2 (by decide) hpk.1 k_fn_W_158 (hR.bf.2.2 _ _ he).2.2 d_W_holds_39 ?_
        refine bb_eq (tgt := 70) C d_W_holds_42 (by decide) (fun k3 => ?_) (fun k3 => ?_)
        · refine lv_iconst (v := 1) hx hb d_W_holds_70 (by decide) ?_
          exact rt_ROi C hr hlk (by rw [hsp, k3]; rfl) d_W_holds_71
        · refine lv_goto (tgt := 66) hx hb d_W_holds_45 (by decide) ?_
          refine lv_iconst (v := 2) hx hb d_W_holds_66 (by decide) ?_
          refine lv_goto (tgt := 71) hx hb d_W_holds_67 (by decide) ?_
          exact rt_ROi C hr hlk (by rw [hsp, k3]; rfl) d_W_holds_71
      | none =>
        refine lv_astore_nN (lv' := [(2, _), (0, _), (1, _)]) hx hb d_W_holds_15 rfl hl (by decide) rfl (fun ls hl => ?_)
        refine lv_aload_n hx hb d_W_holds_16 rfl (lv_at hl 1 rfl) ?_
        refine w_getr C hI 2 (by decide) k_fl_W_42 rfl 2 rfl d_W_holds_17 ?_
        refine lv_iload_n hx hb d_W_holds_20 rfl (lv_at hl 2 rfl) ?_
        refine w_pl C hI hq (by omega) (hR.pl q hq) d_W_holds_21 ?_
        refine lv_istore_n (lv' := [(3, _), (2, _), (0, _), (1, _)]) hx hb d_W_holds_22 rfl hl (by decide) rfl (fun ls hl => ?_)
        refine lv_aload_nN hx hb d_W_holds_23 rfl (lv_at hl 1 rfl) ?_
        refine lv_ifnonnullN hx hb d_W_holds_24 ?_
        refine lv_iload_n hx hb d_W_holds_27 rfl (lv_at hl 0 rfl) ?_
        refine lv_iconst (v := -1) hx hb d_W_holds_28 (by decide) ?_
        refine bo_ne (tgt := 34) C (fun j hj => by have := (bst_lt hj).1; omega) d_W_holds_29 (by decide) (fun j29 k2 => ?_) (fun k2 => ?_)
        · obtain ⟨hb9, -, hv9⟩ := fNew_ba hR k2
          have hj9 := (bst_lt k2).1
          have hsp : sHolds nb F (nI q) = sI (fTr F j29) := by rw [sHolds, hin]; dsimp only; rw [hf]; dsimp only; rw [k2]
          refine lv_aload_nN hx hb d_W_holds_34 rfl (lv_at hl 1 rfl) ?_
          refine lv_ifnullN (tgt := 48) hx hb d_W_holds_35 (by decide) ?_
          refine lv_aload_n hx hb d_W_holds_48 rfl (lv_at hl 2 rfl) ?_
          refine w_getr C hI 1 (by decide) k_fl_W_35 rfl 1 rfl d_W_holds_49 ?_
          refine lv_iload_n (x := nI j29) hx hb d_W_holds_52 rfl (by rw [← oI_some, ← k2]; exact lv_at hl 0 rfl) ?_
          refine lv_iconst (v := nI 4) hx hb d_W_holds_53 (by decide) ?_
          refine an_div C (by omega) (by omega) (by omega) d_W_holds_54 ?_
          refine w_blk C hI hb9 (by omega) d_W_holds_55 ?_
          refine bN_getr C hI 3 (by decide) (by omega) k_fn_W_83 d_W_holds_56 ?_
          refine lv_iload_n (x := nI j29) hx hb d_W_holds_59 rfl (by rw [← oI_some, ← k2]; exact lv_at hl 0 rfl) ?_
          refine lv_iconst (v := nI 4) hx hb d_W_holds_60 (by decide) ?_
          refine an_rem C (by omega) (by omega) (by omega) d_W_holds_61 ?_
          refine bt_ald C hI hb9 (by omega) hv9 d_W_holds_62 ?_
          refine bb_eq (tgt := 70) C d_W_holds_63 (by decide) (fun k3 => ?_) (fun k3 => ?_)
          · refine lv_iconst (v := 1) hx hb d_W_holds_70 (by decide) ?_
            exact rt_ROi C hr hlk (by rw [hsp, k3]; rfl) d_W_holds_71
          · refine lv_iconst (v := 2) hx hb d_W_holds_66 (by decide) ?_
            refine lv_goto (tgt := 71) hx hb d_W_holds_67 (by decide) ?_
            exact rt_ROi C hr hlk (by rw [hsp, k3]; rfl) d_W_holds_71
        · refine lv_iconst (v := 0) hx hb d_W_holds_32 (by decide) ?_
          exact rt_ROi C hr hlk (by rw [sHolds, hin]; dsimp only; rw [hf]; dsimp only; rw [k2]) d_W_holds_33
    · cases k1
end WA
end
section
/-! PURE: what a flash keeps -/
/-- WB, with the growing numbers below B -/
def WQ (nb sp B : Nat) (F : Fl) : Prop := WB nb sp F ∧ fNx F ≤ B ∧ ∀ b, b < nb → fEr F b ≤ B
/-- a block that is partly programmed is the open one -/
def Pt (nb : Nat) (F : Fl) : Prop := ∀ b, b < nb → fUs F b ≠ 0 → fUs F b ≠ 4 → fOp F = some b
theorem WQ.mono {nb sp B B' : Nat} {F : Fl} (h : WQ nb sp B F) (hB : B ≤ B') : WQ nb sp B' F := ⟨h.1, by have := h.2.1; omega, fun b hb => by have := h.2.2 b hb; omega⟩
theorem WQ.blow {nb sp B : Nat} {F : Fl} (h : WQ nb sp B F) : WQ nb sp B (fBlow F) := ⟨⟨h.1.nb, h.1.sp, h.1.us, h.1.sc, h.1.sr, h.1.nx, h.1.er, h.1.op, h.1.bl, Nat.zero_le _, h.1.bs, h.1.wd⟩, h.2⟩
theorem WQ.oper {nb sp B : Nat} {F : Fl} (h : WQ nb sp B F) : WQ nb sp B (fOper F) := ⟨⟨h.1.nb, h.1.sp, h.1.us, h.1.sc, h.1.sr, h.1.nx, h.1.er, h.1.op, h.1.bl, by show fFu F - 1 ≤ 1000; have := h.1.fu; omega, h.1.bs, h.1.wd⟩, h.2⟩
theorem WQ.setOp {nb sp B : Nat} {F : Fl} (h : WQ nb sp B F) {o : Option Nat} (ho : ∀ b, o = some b → b < nb) : WQ nb sp B (fSetOp F o) := ⟨⟨h.1.nb, h.1.sp, h.1.us, h.1.sc, h.1.sr, h.1.nx, h.1.er, ho, h.1.bl, h.1.fu, h.1.bs, h.1.wd⟩, h.2⟩
theorem WQ.setFu {nb sp B : Nat} {F : Fl} (h : WQ nb sp B F) {n : Nat} (hn : n ≤ 1000) : WQ nb sp B (fSetFu F n) := ⟨⟨h.1.nb, h.1.sp, h.1.us, h.1.sc, h.1.sr, h.1.nx, h.1.er, h.1.op, h.1.bl, hn, h.1.bs, h.1.wd⟩, h.2⟩
theorem WQ.setBf {nb sp B : Nat} {F : Fl} (h : WQ nb sp B F) {bf : List (Nat × Int32 × Bool)} (hl : bf.length ≤ 3) (hb : ∀ (k : Nat) (e : Nat × Int32 × Bool), bf[k]? = some e → e.1 < 4 * (nb - 3)) : WQ nb sp B (fSetBf F bf) := ⟨⟨h.1.nb, h.1.sp, h.1.us, h.1.sc, h.1.sr, h.1.nx, h.1.er, h.1.op, hl, h.1.fu, hb, h.1.wd⟩, h.2⟩
theorem WQ.prog {nb sp B : Nat} {F : Fl} (h : WQ nb sp B F) (hB : B + 1 ≤ 90000) (hob : fOb F < nb) (hu : fUs F (fOb F) < 4) {q : Nat} (hq : q < 4 * (nb - 3)) (v : Int32) (t : Bool) : WQ nb sp (B + 1) (fProg F q v t) := by
  obtain ⟨w, h2, h3⟩ := h
  have hd := fNp_dm F hu
  have hpp : ∀ i, prg (fProg F q v t) i = true ↔ (i = fNp F ∨ prg F i = true) := fun i => by rw [prg_prog hu]; simp
  have hsc : ∀ i, fSc (fProg F q v t) i = if i = fNp F then q else fSc F i := fun i => rfl
  have hsr : ∀ i, fSr (fProg F q v t) i = if i = fNp F then fNx F else fSr F i := fun i => rfl
  refine ⟨⟨w.nb, w.sp, fun b hb => ?_, fun p hp hg => ?_, fun p hp hg => ?_, by show fNx F + 1 ≤ 90000; omega, w.er, w.op, w.bl, w.fu, w.bs, fun p r hp hr hg1 hg2 he => ?_⟩, by show fNx F + 1 ≤ B + 1; omega, fun b hb => by have := h3 b hb; show fEr F b ≤ B + 1; omega⟩
  · show va_up (fUs F) (fOb F) (fUs F (fOb F) + 1) b ≤ 4
    by_cases z : b = fOb F
    · subst z; rw [va_up_self]; omega
    · rw [va_up_ne _ _ z]; exact w.us b hb
  · rw [hsc]
    split
    · exact hq
    · rename_i hne; exact w.sc p hp (((hpp p).mp hg).resolve_left hne)
  · rw [hsr]
    show _ < fNx F + 1
    split
    · omega
    · rename_i hne; have := w.sr p hp (((hpp p).mp hg).resolve_left hne); omega
  · rw [hsr, hsr] at he
    split at he <;> split at he
    · rename_i z1 z2; rw [z1, z2]
    · rename_i z1 z2
      have := w.sr r hr (((hpp r).mp hg2).resolve_left z2); omega
    · rename_i z1 z2
      have := w.sr p hp (((hpp p).mp hg1).resolve_left z1); omega
    · rename_i z1 z2
      exact w.wd p r hp hr (((hpp p).mp hg1).resolve_left z1) (((hpp r).mp hg2).resolve_left z2) he
theorem WQ.erase {nb sp B : Nat} {F : Fl} (h : WQ nb sp B F) (hB : B + 1 ≤ 90000) {v : Nat} (hv : v < nb) : WQ nb sp (B + 1) (fErase F v) := by
  obtain ⟨w, h2, h3⟩ := h
  have hpp : ∀ i, prg (fErase F v) i = true → prg F i = true := fun i hi => by rw [prg_erase] at hi; simp only [Bool.and_eq_true] at hi; exact hi.1
  have hers : ∀ b, b < nb → va_up (fEr F) v (fEr F v + 1) b ≤ B + 1 := fun b hb => by
    by_cases z : b = v
    · subst z; rw [va_up_self]; have := h3 b hb; omega
    · rw [va_up_ne _ _ z]; have := h3 b hb; omega
  refine ⟨⟨w.nb, w.sp, fun b hb => ?_, fun p hp hg => w.sc p hp (hpp p hg), fun p hp hg => w.sr p hp (hpp p hg), w.nx, fun b hb => by have := hers b hb; show va_up (fEr F) v (fEr F v + 1) b ≤ 90000; omega, w.op, w.bl, w.fu, w.bs, fun p r hp hr g1 g2 he => w.wd p r hp hr (hpp p g1) (hpp r g2) he⟩, by show fNx F ≤ B + 1; omega, hers⟩
  show va_up (fUs F) v 0 b ≤ 4
  by_cases z : b = v
  · subst z; rw [va_up_self]; omega
  · rw [va_up_ne _ _ z]; exact w.us b hb
theorem nxM_gt {F : Fl} {p : Nat} (hp : prg F p = true) : ∀ k, p < k → fSr F p < nxM F k
  | 0, h => by omega
  | k + 1, h => by
    unfold nxM
    by_cases z : p = k
    · subst z
      split
      · omega
      · rename_i hh
        have : ¬ nxM F p ≤ fSr F p := fun z2 => hh ⟨hp, z2⟩
        omega
    · have := nxM_gt hp k (by omega)
      split
      · rename_i hh; omega
      · exact this
theorem WQ.reb {nb sp B : Nat} {F : Fl} (h : WQ nb sp B F) : WQ nb sp B (sReb nb F) := by
  obtain ⟨w, h2, h3⟩ := h
  have hle : nxM F (4 * nb) ≤ fNx F := nxM_le (fun p hp => w.sr p hp) (4 * nb) (Nat.le_refl _)
  exact ⟨⟨w.nb, w.sp, w.us, w.sc, fun p hp hg => (by show fSr F p < nxM F (4 * nb); exact nxM_gt (F := F) hg (4 * nb) hp), by show nxM F (4 * nb) ≤ 90000; have := w.nx; omega, w.er, fun b hb => lstP_lt F hb, Nat.zero_le _, w.fu, fun k e he => (by cases he), w.wd⟩, by show nxM F (4 * nb) ≤ B; omega, h3⟩
theorem cnt_pos {f : Nat → Bool} {i : Nat} (hi : f i = true) : ∀ {n : Nat}, i < n → 0 < cnt f n
  | 0, h => by omega
  | n + 1, h => by
    unfold cnt
    by_cases z : i = n
    · subst z; rw [hi]; simp
    · have := cnt_pos hi (n := n) (by omega)
      omega
theorem cnt_ex {f : Nat → Bool} : ∀ {n : Nat}, 0 < cnt f n → ∃ i, i < n ∧ f i = true
  | 0, h => by simp [cnt] at h
  | n + 1, h => by
    cases hf : f n with
    | true => exact ⟨n, by omega, hf⟩
    | false =>
      rw [cnt_no hf] at h
      obtain ⟨i, hi, h2⟩ := cnt_ex (n := n) (by omega)
      exact ⟨i, by omega, h2⟩
theorem cnt_le1 {f : Nat → Bool} {n b : Nat} (hb : b < n) (hf : f b = true) (h : cnt f n < 2) : ∀ c, c < n → f c = true → c = b := by
  intro c hc hfc
  by_cases z : c = b
  · exact z
  · exfalso
    have h1 := cnt_one (f := fun i => f i && decide (i ≠ b)) (g := f) (i := b) (by simp) hf (fun j hj => by simp [hj]) (n := n) hb
    have h2 := cnt_pos (f := fun i => f i && decide (i ≠ b)) (i := c) (by simp [hfc, z]) hc
    omega
theorem cnt_ge2 {f : Nat → Bool} {n b : Nat} (h : ¬ cnt f n < 2) : ∃ c, c < n ∧ c ≠ b ∧ f c = true := by
  have h3 : cnt f n ≤ cnt (fun i => f i && decide (i ≠ b)) n + 1 := by
    cases hf : f b with
    | false =>
      rw [cnt_congr (f := f) (g := fun i => f i && decide (i ≠ b)) (fun i _ => by
        by_cases z : i = b
        · subst z; simp [hf]
        · simp [z])]
      omega
    | true =>
      by_cases hb : b < n
      · have h1 := cnt_one (f := fun i => f i && decide (i ≠ b)) (g := f) (i := b) (by simp) hf (fun j hj => by simp [hj]) (n := n) hb
        omega
      · rw [cnt_congr (f := f) (g := fun i => f i && decide (i ≠ b)) (fun i hi => by
          have : i ≠ b := by omega
          simp [this])]
        omega
  obtain ⟨c, hc, hfc⟩ := cnt_ex (f := fun i => f i && decide (i ≠ b)) (n := n) (by omega)
  simp only [Bool.and_eq_true, decide_eq_true_eq] at hfc
  exact ⟨c, hc, hfc.2, hfc.1⟩
theorem fVin_4 {nb b : Nat} {F : Fl} (h : fVin nb F b = 4) : ∀ q, q < 4 → vld nb F (4 * b + q) = true := by
  intro q hq
  cases hv : vld nb F (4 * b + q) with
  | true => rfl
  | false =>
    exfalso
    have h1 := cnt_one (f := fun i => vld nb F (4 * b + i)) (g := fun i => vld nb F (4 * b + i) || decide (i = q)) (i := q) hv (by simp) (fun j hj => by simp [hj]) (n := 4) hq
    have h2 := cnt_le (fun i => vld nb F (4 * b + i) || decide (i = q)) 4
    unfold fVin at h
    omega
/-- when all blocks but one are full, one of them has a page that isn't valid -/
theorem vin_3 {nb sp b : Nat} {F : Fl} (w : WB nb sp F) (hb : b < nb) (hfull : ∀ c, c < nb → c ≠ b → fUs F c = 4) : ∃ c, c < nb ∧ c ≠ b ∧ fVin nb F c ≤ 3 := by
  have h1 := w.nb
  refine Classical.byContradiction fun hx => ?_
  have hall : ∀ c, c < nb → c ≠ b → fVin nb F c = 4 := fun c hc hne => by
    have h4 := fVin_le nb F c
    have : ¬ fVin nb F c ≤ 3 := fun z => hx ⟨c, hc, hne, z⟩
    omega
  have hv : ∀ p, p < 4 * nb → p / 4 ≠ b → vld nb F p = true := fun p hp hne => by
    have := fVin_4 (hall (p / 4) (by omega) hne) (p % 4) (by omega)
    rwa [show 4 * (p / 4) + p % 4 = p by omega] at this
  have hpn : ∀ i, i < 4 * (nb - 1) → (if i < 4 * b then i else i + 4) < 4 * nb ∧ (if i < 4 * b then i else i + 4) / 4 ≠ b := fun i hi => by split <;> omega
  have := pig (4 * (nb - 3)) (4 * (nb - 1)) (fun i => fSc F (if i < 4 * b then i else i + 4)) (fun i hi => w.sc _ (hpn i hi).1 (vld_iff.mp (hv _ (hpn i hi).1 (hpn i hi).2)).1) (fun i j hi hj e => by
    have e1 := (vld_iff.mp (hv _ (hpn i hi).1 (hpn i hi).2)).2
    have e2 := (vld_iff.mp (hv _ (hpn j hj).1 (hpn j hj).2)).2
    have e' : fSc F (if i < 4 * b then i else i + 4) = fSc F (if j < 4 * b then j else j + 4) := e
    rw [e', e2] at e1
    have := Option.some.inj e1
    split at this <;> split at this <;> omega)
  omega
/-- room for what a block's collecting copies -/
def roomFor (nb : Nat) (F : Fl) (v : Nat) : Prop := match fOp F with
  | none => fVin nb F v = 0
  | some b => fVin nb F v + fUs F b ≤ 4
/-- a flash where the power has gone -/
def WX (nb sp B : Nat) (F : Fl) : Prop := WQ nb sp B F ∧ Pt nb F ∧ ((∃ c, c < nb ∧ fUs F c = 0) ∨ (fFu F = 0 ∧ ∃ v, v < nb ∧ fUs F v = 4 ∧ fOp F ≠ some v ∧ roomFor nb F v))
/-- copying, page by page -/
theorem cp_inv {nb sp B v : Nat} {F : Fl} (h : WQ nb sp B F) (hB : B + 4 ≤ 90000) (hv : v < nb) (huv : fUs F v = 4) (hop : fOp F ≠ some v) (hr : roomFor nb F v) : ∀ i, i ≤ 4 → (cpF nb v F i).1 = true → WQ nb sp (B + i) (cpF nb v F i).2 ∧ fOp (cpF nb v F i).2 = fOp F ∧ fBf (cpF nb v F i).2 = fBf F ∧ (∀ x, fOp F ≠ some x → fUs (cpF nb v F i).2 x = fUs F x) ∧ (∀ b, fOp F = some b → fVin nb (cpF nb v F i).2 v + fUs (cpF nb v F i).2 b = fVin nb F v + fUs F b ∧ fUs F b ≤ fUs (cpF nb v F i).2 b) ∧ (fOp F = none → fVin nb (cpF nb v F i).2 v = 0) ∧ fFu (cpF nb v F i).2 ≤ fFu F
  | 0, _, _ => ⟨h, rfl, rfl, fun _ _ => rfl, fun _ _ => ⟨rfl, Nat.le_refl _⟩, fun hn => by unfold roomFor at hr; rw [hn] at hr; exact hr, Nat.le_refl _⟩
  | i + 1, hi, ht => by
    cases hvl : vld nb (cpF nb v F i).2 (4 * v + i) with
    | false =>
      rw [cpF_no hvl] at ht ⊢
      obtain ⟨a1, a2, a3, a4, a5, a6, a7⟩ := cp_inv h hB hv huv hop hr i (by omega) ht
      exact ⟨a1.mono (by omega), a2, a3, a4, a5, a6, a7⟩
    | true =>
      have h0 : (cpF nb v F i).1 = true := by
        cases hc : (cpF nb v F i).1 with
        | true => rfl
        | false => rw [cpF, hc, Bool.false_and, if_neg (by decide), hc] at ht; cases ht
      obtain ⟨a1, a2, a3, a4, a5, a6, a7⟩ := cp_inv h hB hv huv hop hr i (by omega) h0
      rw [cpF_yes h0 hvl] at ht ⊢
      rw [sProg_t ht]
      generalize hG : (cpF nb v F i).2 = G at *
      have hpos : 0 < fVin nb G v := by
        rcases Nat.eq_zero_or_pos (fVin nb G v) with z | z
        · have := fVin_0 z (4 * v + i) (by omega)
          rw [hvl] at this; cases this
        · exact z
      cases ho : fOp F with
      | none => have := a6 ho; omega
      | some b =>
        obtain ⟨k1, k2⟩ := a5 b ho
        have hr2 : fVin nb F v + fUs F b ≤ 4 := by unfold roomFor at hr; rw [ho] at hr; exact hr
        have hbn : b < nb := h.1.op b ho
        have hbv : b ≠ v := fun z => hop (by rw [ho, z])
        have hobG : fOb (fOper G) = b := fOb_some (F := fOper G) (a2.trans ho)
        have hub : fUs (fOper G) (fOb (fOper G)) < 4 := by rw [hobG]; show fUs G b < 4; omega
        have hobn : fOb (fOper G) < nb := by rw [hobG]; exact hbn
        have hpg := (vld_iff.mp hvl).1
        have hsc := a1.1.sc (4 * v + i) (by omega) hpg
        have hvp := fVin_prog (nb := nb) (F := fOper G) (s := fSc G (4 * v + i)) (v := fVl G (4 * v + i)) (t := fTr G (4 * v + i)) hobn hub a1.1.sr v
        have hnew : fNew nb (fOper G) (fSc G (4 * v + i)) = some (4 * v + i) := by
          rw [fNew_congr (F := fOper G) (G := G) rfl rfl rfl]; exact (vld_iff.mp hvl).2
        rw [if_pos ⟨_, hnew, by omega⟩, if_neg (by rw [hobG]; exact Ne.symm hbv), fVin_congr (F := fOper G) (G := G) rfl rfl rfl] at hvp
        have hus : ∀ x, fUs (fProg (fOper G) (fSc G (4 * v + i)) (fVl G (4 * v + i)) (fTr G (4 * v + i))) x = if x = b then fUs G b + 1 else fUs G x := fun x => by
          show va_up (fUs G) (fOb (fOper G)) (fUs G (fOb (fOper G)) + 1) x = _
          rw [hobG]; rfl
        refine ⟨?_, a2.trans ho, a3, fun x hx => ?_, fun c hc => ?_, (fun hn => by cases hn), ?_⟩
        · exact (a1.oper.prog (by omega) hobn hub hsc _ _).mono (by omega)
        · rw [hus, if_neg (fun z => hx (by rw [z]))]
          exact a4 x (by rw [ho]; exact hx)
        · cases hc
          dsimp only
          rw [hus, if_pos rfl]
          omega
        · show fFu G - 1 ≤ _
          omega
/-- collecting: what it needs, and what it leaves -/
theorem coll_ok {nb sp B v : Nat} {F : Fl} (h : WQ nb sp B F) (hB : B + 5 ≤ 90000) (hP : Pt nb F) (hv : v < nb) (huv : fUs F v = 4) (hop : fOp F ≠ some v) (hr : roomFor nb F v) : CollOK nb sp F v ∧
    ((sColl nb F v).1 = true → WQ nb sp (B + 5) (sColl nb F v).2 ∧ Pt nb (sColl nb F v).2 ∧ fOp (sColl nb F v).2 = fOp F ∧ fBf (sColl nb F v).2 = fBf F ∧ fUs (sColl nb F v).2 v = 0 ∧ (∀ b, fOp F = some b → fUs (sColl nb F v).2 b = fUs F b + fVin nb F v)) ∧
    ((sColl nb F v).1 = false → WX nb sp (B + 5) (sColl nb F v).2) := by
  have inv := cp_inv h (by omega) hv huv hop hr
  have hO : CollOK nb sp F v := by
    refine ⟨hv, fun i hi ht => ?_⟩
    obtain ⟨a1, a2, a3, a4, a5, a6, a7⟩ := inv i hi ht
    refine ⟨a1.1, fun hi4 hvl => ?_⟩
    have hpos : 0 < fVin nb (cpF nb v F i).2 v := by
      rcases Nat.eq_zero_or_pos (fVin nb (cpF nb v F i).2 v) with z | z
      · have := fVin_0 z (4 * v + i) (by omega)
        rw [hvl] at this; cases this
      · exact z
    cases ho : fOp F with
    | none => have := a6 ho; omega
    | some b =>
      obtain ⟨k1, k2⟩ := a5 b ho
      have hr2 : fVin nb F v + fUs F b ≤ 4 := by unfold roomFor at hr; rw [ho] at hr; exact hr
      exact ⟨b, a2.trans ho, by omega⟩
  -- a state on the way where the power goes
  have hfail : ∀ i, i ≤ 4 → (cpF nb v F i).1 = true → WX nb sp (B + 5) (fBlow (cpF nb v F i).2) := by
    intro i hi ht
    obtain ⟨a1, a2, a3, a4, a5, a6, a7⟩ := inv i hi ht
    refine ⟨(a1.mono (by omega)).blow, fun b hb h0 h4 => ?_, Or.inr ⟨rfl, v, hv, ?_, ?_, ?_⟩⟩
    · show fOp (cpF nb v F i).2 = some b
      rw [a2]
      refine Classical.byContradiction fun hne => ?_
      have e9 := a4 b hne
      have h0' : fUs (cpF nb v F i).2 b ≠ 0 := h0
      have h4' : fUs (cpF nb v F i).2 b ≠ 4 := h4
      rw [e9] at h0' h4'
      exact hne (hP b hb h0' h4')
    · show fUs (cpF nb v F i).2 v = 4
      rw [a4 v hop]; exact huv
    · show fOp (cpF nb v F i).2 ≠ some v
      rw [a2]; exact hop
    · unfold roomFor
      rw [show fOp (fBlow (cpF nb v F i).2) = fOp F from a2]
      cases ho : fOp F with
      | none =>
        dsimp only
        rw [fVin_congr (F := fBlow (cpF nb v F i).2) (G := (cpF nb v F i).2) rfl rfl rfl]
        exact a6 ho
      | some b =>
        dsimp only
        obtain ⟨k1, k2⟩ := a5 b ho
        have hr2 : fVin nb F v + fUs F b ≤ 4 := by unfold roomFor at hr; rw [ho] at hr; exact hr
        rw [fVin_congr (F := fBlow (cpF nb v F i).2) (G := (cpF nb v F i).2) rfl rfl rfl]
        show fVin nb (cpF nb v F i).2 v + fUs (cpF nb v F i).2 b ≤ 4
        omega
  refine ⟨hO, fun ht => ?_, fun hf => ?_⟩
  · have hc4 : (cpF nb v F 4).1 = true := by
      cases hc : (cpF nb v F 4).1 with
      | true => rfl
      | false => rw [sColl, hc, if_neg (by decide), hc] at ht; cases ht
    have hfu : ¬ fFu (cpF nb v F 4).2 = 1 := fun z => by rw [sColl, hc4, if_pos rfl, if_pos z] at ht; cases ht
    have hres : sColl nb F v = (true, fErase (fOper (cpF nb v F 4).2) v) := by rw [sColl, hc4, if_pos rfl, if_neg hfu]
    obtain ⟨a1, a2, a3, a4, a5, a6, a7⟩ := inv 4 (by omega) hc4
    obtain ⟨-, -, hinv⟩ := cpF_keep hO hop 4 (by omega) hc4
    have hz : fVin nb (cpF nb v F 4).2 v = 0 := by
      unfold fVin
      rw [cnt_congr (g := fun _ => false) (fun q hq => hinv q hq)]
      exact cnt_false 4
    rw [hres]
    have hus : ∀ x, fUs (fErase (fOper (cpF nb v F 4).2) v) x = if x = v then 0 else fUs (cpF nb v F 4).2 x := fun x => rfl
    refine ⟨(a1.oper.erase (by omega) hv).mono (by omega), fun b hb h0 h4 => ?_, a2, a3, by rw [hus, if_pos rfl], fun b ho => ?_⟩
    · show fOp (cpF nb v F 4).2 = some b
      rw [a2]
      have hbv : b ≠ v := fun z => h0 (by rw [hus, if_pos z])
      refine Classical.byContradiction fun hne => ?_
      rw [hus, if_neg hbv, a4 b hne] at h0 h4
      exact hne (hP b hb h0 h4)
    · have hbv : b ≠ v := fun z => hop (by rw [ho, z])
      rw [hus, if_neg hbv]
      have := (a5 b ho).1
      omega
  · cases hc : (cpF nb v F 4).1 with
    | true =>
      have hfu : fFu (cpF nb v F 4).2 = 1 := by
        rcases Decidable.em (fFu (cpF nb v F 4).2 = 1) with z | z
        · exact z
        · rw [sColl, hc, if_pos rfl, if_neg z] at hf; cases hf
      rw [sColl, hc, if_pos rfl, if_pos hfu]
      exact hfail 4 (by omega) hc
    | false =>
      rw [sColl, hc, if_neg (by decide)]
      -- the first page whose copy was cut
      have key : ∀ i, i ≤ 4 → (cpF nb v F i).1 = false → WX nb sp (B + 5) (cpF nb v F i).2 := by
        intro i
        induction i with
        | zero => intro _ h9; cases h9
        | succ i ih =>
          intro hi h9
          cases hci : (cpF nb v F i).1 with
          | false =>
            rw [show cpF nb v F (i + 1) = cpF nb v F i from cpF_stop hci 1]
            exact ih (by omega) hci
          | true =>
            cases hvl : vld nb (cpF nb v F i).2 (4 * v + i) with
            | false => rw [cpF_no hvl, hci] at h9; cases h9
            | true =>
              rw [cpF_yes hci hvl] at h9 ⊢
              have hfu : fFu (cpF nb v F i).2 = 1 := by
                rcases Decidable.em (fFu (cpF nb v F i).2 = 1) with z | z
                · exact z
                · rw [sProg, if_neg z] at h9; cases h9
              rw [sProg, if_pos hfu]
              exact hfail i (by omega) hci
      exact key 4 (by omega) hc
end
section
/-! PURE: what providing, storing, losing and changing keep -/
/-- between two calls -/
def WS (nb sp B : Nat) (F : Fl) : Prop := WQ nb sp B F ∧ Pt nb F ∧ (∀ b, fOp F = some b → fUs F b ≠ 0) ∧ ∃ c, c < nb ∧ fUs F c = 0
/-- at the head of provide's loop -/
def WH (nb sp B : Nat) (F : Fl) : Prop := WQ nb sp B F ∧ Pt nb F ∧ ∃ c, c < nb ∧ fUs F c = 0 ∧ fOp F ≠ some c
def WP (nb sp B : Nat) (F : Fl) : Prop := WH nb sp B F ∧ ∃ b, fOp F = some b ∧ fUs F b < 4
theorem WS.h {nb sp B : Nat} {F : Fl} (h : WS nb sp B F) : WH nb sp B F := by
  obtain ⟨a, b, c, d, e, f⟩ := h
  exact ⟨a, b, d, e, f, fun z => c d z f⟩
theorem WS.x {nb sp B : Nat} {F : Fl} (h : WS nb sp B F) : WX nb sp B F := ⟨h.1, h.2.1, Or.inl h.2.2.2⟩
theorem WS.mono {nb sp B B' : Nat} {F : Fl} (h : WS nb sp B F) (hB : B ≤ B') : WS nb sp B' F := ⟨h.1.mono hB, h.2⟩
theorem WH.mono {nb sp B B' : Nat} {F : Fl} (h : WH nb sp B F) (hB : B ≤ B') : WH nb sp B' F := ⟨h.1.mono hB, h.2⟩
theorem WX.mono {nb sp B B' : Nat} {F : Fl} (h : WX nb sp B F) (hB : B ≤ B') : WX nb sp B' F := ⟨h.1.mono hB, h.2⟩
theorem WH.room {nb sp B : Nat} {F : Fl} (h : WH nb sp B F) (hn : noRoom F = false) : WP nb sp B F := by
  refine ⟨h, ?_⟩
  unfold noRoom at hn
  cases ho : fOp F with
  | none => rw [ho] at hn; cases hn
  | some b =>
    rw [ho] at hn
    have h1 : ¬ fUs F b = 4 := by simpa using hn
    have h2 := h.1.1.us b (h.1.1.op b ho)
    exact ⟨b, rfl, by omega⟩
theorem pv_step {nb sp B : Nat} {F : Fl} (h : WH nb sp B F) (hB : B + 5 ≤ 90000) (hn : noRoom F = true) : ∃ b, fPick nb F 0 false = some b ∧ WQ nb sp B (fSetOp F (some b)) ∧ (¬ fFree nb F < 2 → WH nb sp B (fSetOp F (some b)) ∧ noRoom (fSetOp F (some b)) = false) ∧
    (fFree nb F < 2 → ∀ g, ∃ v, fPick nb (fSetOp F (some b)) 4 g = some v ∧ CollOK nb sp (fSetOp F (some b)) v ∧
      ((sColl nb (fSetOp F (some b)) v).1 = true → WH nb sp (B + 5) (sColl nb (fSetOp F (some b)) v).2 ∧ fBf (sColl nb (fSetOp F (some b)) v).2 = fBf F ∧ (g = true → noRoom (sColl nb (fSetOp F (some b)) v).2 = false)) ∧
      ((sColl nb (fSetOp F (some b)) v).1 = false → WX nb sp (B + 5) (sColl nb (fSetOp F (some b)) v).2)) := by
  obtain ⟨hQ, hP, c, hc, huc, hopc⟩ := h
  have hnb := hQ.1.nb
  have hno : ∀ b, b < nb → fUs F b = 0 ∨ fUs F b = 4 := fun b hb => by
    rcases Decidable.em (fUs F b = 0) with z | z
    · exact Or.inl z
    · refine Or.inr (Classical.byContradiction fun z4 => ?_)
      have := hP b hb z z4
      unfold noRoom at hn
      rw [this] at hn
      exact z4 (by simpa using hn)
  obtain ⟨b, hb⟩ := bst_some (ok := fun b => fUs F b == 0) (lt := fun k j => decide (fCost nb F false k < fCost nb F false j)) hc (by simp [huc])
  have hb1 := bst_lt hb
  have hub : fUs F b = 0 := by simpa using hb1.2
  have hQ1 : WQ nb sp B (fSetOp F (some b)) := hQ.setOp (fun x hx => by cases hx; exact hb1.1)
  have hP1 : Pt nb (fSetOp F (some b)) := fun x hx h0 h4 => by
    rcases hno x hx with z | z
    · exact absurd z h0
    · exact absurd z h4
  refine ⟨b, hb, hQ1, fun hf => ?_, fun hf g => ?_⟩
  · obtain ⟨d, hd, hne, hfd⟩ := cnt_ge2 (b := b) hf
    refine ⟨⟨hQ1, hP1, d, hd, (by show fUs F d = 0; simpa using hfd), fun z => hne (Option.some.inj z).symm⟩, ?_⟩
    show (fUs F b == 4) = false
    rw [hub]; rfl
  · have hfull : ∀ x, x < nb → x ≠ b → fUs F x = 4 := fun x hx hne => by
      rcases hno x hx with z | z
      · exact absurd (cnt_le1 hb1.1 hb1.2 hf x hx (by simp [z])) hne
      · exact z
    obtain ⟨x0, hx0, hx1⟩ : ∃ x, x < nb ∧ x ≠ b := by
      rcases Decidable.em (b = 0) with z | z
      · exact ⟨1, by omega, by omega⟩
      · exact ⟨0, by omega, by omega⟩
    obtain ⟨v, hv⟩ := bst_some (ok := fun b' => fUs (fSetOp F (some b)) b' == 4) (lt := fun k j => decide (fCost nb (fSetOp F (some b)) g k < fCost nb (fSetOp F (some b)) g j)) hx0 (by
      show (fUs F x0 == 4) = true
      rw [hfull x0 hx0 hx1]; rfl)
    have hv1 := bst_lt hv
    have huv : fUs F v = 4 := by have := hv1.2; simp at this; exact this
    have hvb : b ≠ v := fun z => by rw [← z, hub] at huv; omega
    obtain ⟨hC, hT, hX⟩ := coll_ok (v := v) hQ1 hB hP1 hv1.1 huv (fun z => hvb (Option.some.inj z)) (by
      show fVin nb (fSetOp F (some b)) v + fUs F b ≤ 4
      have := fVin_le nb (fSetOp F (some b)) v
      omega)
    refine ⟨v, hv, hC, fun ht => ?_, hX⟩
    obtain ⟨t1, t2, t3, t4, t5, t6⟩ := hT ht
    refine ⟨⟨t1, t2, v, hv1.1, t5, by rw [t3]; exact fun z => hvb (Option.some.inj z)⟩, t4, fun hg => ?_⟩
    subst hg
    obtain ⟨d, hd, hne, hvd⟩ := vin_3 (b := b) hQ1.1 hb1.1 hfull
    have hm := (bmin (ok := fun b' => fUs (fSetOp F (some b)) b' == 4) (key := fCost nb (fSetOp F (some b)) true) hv).2.2.1 d hd (by
      show (fUs F d == 4) = true
      rw [hfull d hd hne]; rfl)
    have hed := hQ1.1.er d hd
    simp only [fCost, if_true] at hm
    have h6 := t6 b rfl
    have h7 : fUs (fSetOp F (some b)) b = 0 := hub
    unfold noRoom
    rw [t3]
    show (fUs _ b == 4) = false
    rw [h6, h7]
    simp
    omega
/-- what provide leaves -/
def PvR (nb sp B : Nat) (F : Fl) (r : Bool × Fl) : Prop := (r.1 = true → WP nb sp B r.2 ∧ fBf r.2 = fBf F) ∧ (r.1 = false → WX nb sp B r.2)
theorem prov1 {nb sp B : Nat} {F : Fl} (h : WH nb sp B F) (hn : noRoom F = false) (n : Nat) (lev : Bool) : ProvOK nb sp (n + 1) lev F ∧ PvR nb sp B F (sProv nb sp (n + 1) lev F) := by
  refine ⟨⟨h.1.1, fun z => by rw [hn] at z; cases z⟩, ?_⟩
  rw [sProv, hn, if_neg (by decide)]
  exact ⟨fun _ => ⟨h.room hn, rfl⟩, fun z => by cases z⟩
theorem PvR.mono {nb sp B B' : Nat} {F G : Fl} {r : Bool × Fl} (h : PvR nb sp B F r) (hB : B ≤ B') (hb : fBf F = fBf G) : PvR nb sp B' G r :=
  ⟨fun z => ⟨⟨(h.1 z).1.1.mono hB, (h.1 z).1.2⟩, by rw [(h.1 z).2, hb]⟩, fun z => (h.2 z).mono hB⟩
theorem prov_g {nb sp B B' n : Nat} {F : Fl} {lev : Bool} (h : WH nb sp B F) (hB : B + 5 ≤ 90000) (hB' : B + 5 ≤ B') (hnx : ∀ G, WH nb sp (B + 5) G → ((!(!lev && fWorn nb sp F)) = true → noRoom G = false) → ProvOK nb sp (n + 1) (lev || (!lev && fWorn nb sp F)) G ∧ PvR nb sp B' G (sProv nb sp (n + 1) (lev || (!lev && fWorn nb sp F)) G)) :
    ProvOK nb sp (n + 2) lev F ∧ PvR nb sp B' F (sProv nb sp (n + 2) lev F) := by
  cases hn : noRoom F with
  | false =>
    obtain ⟨x, y⟩ := prov1 h hn (n + 1) lev
    exact ⟨x, y.mono (by omega) rfl⟩
  | true =>
    obtain ⟨b, hb, hQ1, hk1, hk2⟩ := pv_step h hB hn
    by_cases hf : fFree nb F < 2
    · obtain ⟨v, hv, hC, hT, hX⟩ := hk2 hf (!(!lev && fWorn nb sp F))
      have e1 : sProv nb sp (n + 2) lev F = if (sColl nb (fSetOp F (some b)) v).1 then sProv nb sp (n + 1) (lev || (!lev && fWorn nb sp F)) (sColl nb (fSetOp F (some b)) v).2 else sColl nb (fSetOp F (some b)) v := by
        rw [sProv, hn, if_pos rfl, if_pos hf, hb, hv]; rfl
      constructor
      · refine ⟨h.1.1, fun _ => ?_⟩
        rw [hb, hv]
        refine ⟨hQ1.1, rfl, fun _ => ⟨rfl, hC, fun ht => ?_⟩, fun z => absurd hf z⟩
        exact (hnx _ (hT ht).1 (hT ht).2.2).1
      · rw [e1]
        cases ht : (sColl nb (fSetOp F (some b)) v).1 with
        | true =>
          rw [if_pos rfl]
          exact (hnx _ (hT ht).1 (hT ht).2.2).2.mono (Nat.le_refl _) (hT ht).2.1
        | false =>
          rw [if_neg (by decide)]
          exact ⟨(fun z => by rw [ht] at z; cases z), fun _ => (hX ht).mono hB'⟩
    · have e1 : sProv nb sp (n + 2) lev F = sProv nb sp (n + 1) lev (fSetOp F (some b)) := by
        rw [sProv, hn, if_pos rfl, if_neg hf, hb]
      obtain ⟨x, y⟩ := prov1 (hk1 hf).1 (hk1 hf).2 n lev
      constructor
      · refine ⟨h.1.1, fun _ => ?_⟩
        rw [hb]
        exact ⟨hQ1.1, rfl, fun z => absurd z hf, fun _ => x⟩
      · rw [e1]
        exact y.mono (by omega) rfl
theorem prov2 {nb sp B : Nat} {F : Fl} (h : WH nb sp B F) (hB : B + 5 ≤ 90000) (n : Nat) : ProvOK nb sp (n + 2) true F ∧ PvR nb sp (B + 5) F (sProv nb sp (n + 2) true F) :=
  prov_g h hB (Nat.le_refl _) fun G hG hr => prov1 hG (hr rfl) n _
theorem prov3 {nb sp B : Nat} {F : Fl} (h : WH nb sp B F) (hB : B + 10 ≤ 90000) : ProvOK nb sp 3 false F ∧ PvR nb sp (B + 10) F (sProv nb sp 3 false F) :=
  prov_g h (by omega) (by omega) fun G hG hr => by
    cases hw : fWorn nb sp F with
    | true => exact prov2 hG (by omega) 0
    | false =>
      rw [hw] at hr
      obtain ⟨x, y⟩ := prov1 hG (hr rfl) 1 false
      exact ⟨x, y.mono (by omega) rfl⟩
/-! losing the power -/
theorem lstP_some (F : Fl) : ∀ {k j : Nat}, lstP F k = some j → j < k ∧ 0 < fUs F j ∧ fUs F j < 4
  | 0, j, h => by cases h
  | k + 1, j, h => by
    unfold lstP at h
    split at h
    · rename_i hh; cases h; exact ⟨by omega, hh⟩
    · have := lstP_some F h; exact ⟨by omega, this.2⟩
theorem lstP_none (F : Fl) : ∀ {k : Nat}, lstP F k = none → ∀ j, j < k → ¬ (0 < fUs F j ∧ fUs F j < 4)
  | 0, h, j, hj => by omega
  | k + 1, h, j, hj => by
    unfold lstP at h
    split at h
    · cases h
    · rename_i hh
      by_cases z : j = k
      · subst z; exact hh
      · exact lstP_none F h j (by omega)
theorem cp_fu {nb v : Nat} {F : Fl} (h : fFu F = 0) : ∀ i, (cpF nb v F i).1 = true ∧ fFu (cpF nb v F i).2 = 0
  | 0 => ⟨rfl, h⟩
  | i + 1 => by
    obtain ⟨a, b⟩ := cp_fu (nb := nb) (v := v) h i
    rw [cpF]
    split
    · unfold sProg
      rw [if_neg (by omega)]
      exact ⟨rfl, by show fFu (cpF nb v F i).2 - 1 = 0; omega⟩
    · exact ⟨a, b⟩
theorem lost_ok {nb sp B : Nat} {F : Fl} (h : WX nb sp B F) (hB : B + 5 ≤ 90000) : LostOK nb sp F ∧ WS nb sp (B + 5) (sLost nb F) := by
  obtain ⟨hQ, hP, hx⟩ := h
  have hQR := hQ.reb
  have hPR : Pt nb (sReb nb F) := fun b hb h0 h4 => by
    have h0' : fUs F b ≠ 0 := h0
    have h4' : fUs F b ≠ 4 := h4
    have h5 := hQ.1.us b hb
    have e1 := hP b hb h0' h4'
    show lstP F nb = some b
    cases hl : lstP F nb with
    | none => exact absurd ⟨by omega, by omega⟩ (lstP_none F hl b hb)
    | some j =>
      have h6 := lstP_some F hl
      have e2 := hP j h6.1 (by omega) (by omega)
      rw [e1] at e2
      exact e2.symm
  have hop : ∀ b, fOp (sReb nb F) = some b → fUs (sReb nb F) b ≠ 0 ∧ fUs (sReb nb F) b ≠ 4 := fun b hb => by
    have h6 := lstP_some F (show lstP F nb = some b from hb)
    exact ⟨by show fUs F b ≠ 0; omega, by show fUs F b ≠ 4; omega⟩
  by_cases hf : fFree nb (sReb nb F) = 0
  · have hne : ∀ c, c < nb → fUs F c ≠ 0 := fun c hc z => by
      have := cnt_pos (f := fun b => fUs (sReb nb F) b == 0) (i := c) (by show (fUs F c == 0) = true; rw [z]; rfl) hc
      unfold fFree at hf
      omega
    have hx2 := hx.resolve_left fun ⟨c, hc, hz⟩ => hne c hc hz
    obtain ⟨hfu, v, hv, huv, hov, hrv⟩ := hx2
    obtain ⟨u, hu⟩ := bst_some (ok := fun b' => fUs (sReb nb F) b' == 4) (lt := fun k j => decide (fCost nb (sReb nb F) true k < fCost nb (sReb nb F) true j)) hv (by
      show (fUs F v == 4) = true
      rw [huv]; rfl)
    obtain ⟨u1, u2, u3, -⟩ := bmin (ok := fun b' => fUs (sReb nb F) b' == 4) (key := fCost nb (sReb nb F) true) hu
    have huu : fUs (sReb nb F) u = 4 := by simpa using u2
    have hm := u3 v hv (by show (fUs F v == 4) = true; rw [huv]; rfl)
    simp only [fCost, if_true] at hm
    have hev := hQR.1.er v hv
    rw [fVin_congr (F := sReb nb F) (G := F) rfl rfl rfl, fVin_congr (F := sReb nb F) (G := F) rfl rfl rfl] at hm
    have hou : fOp (sReb nb F) ≠ some u := fun z => (hop u z).2 huu
    have hru : roomFor nb (sReb nb F) u := by
      unfold roomFor at hrv ⊢
      rw [fVin_congr (F := sReb nb F) (G := F) rfl rfl rfl]
      cases ho : fOp (sReb nb F) with
      | none =>
        show fVin nb F u = 0
        cases ho2 : fOp F with
        | none => rw [ho2] at hrv; dsimp only at hrv; omega
        | some b =>
          rw [ho2] at hrv; dsimp only at hrv
          have hb := hQ.1.op b ho2
          have h3 := lstP_none F (show lstP F nb = none from ho) b hb
          have h4 := hne b hb
          omega
      | some b =>
        show fVin nb F u + fUs F b ≤ 4
        have h6 := lstP_some F (show lstP F nb = some b from ho)
        have e1 := hP b h6.1 (by omega) (by omega)
        rw [e1] at hrv; dsimp only at hrv
        omega
    obtain ⟨hC, hT, hX⟩ := coll_ok (v := u) hQR hB hPR u1 huu hou hru
    have hfR : fFu (sReb nb F) = 0 := hfu
    have ht : (sColl nb (sReb nb F) u).1 = true := by
      have := cp_fu (nb := nb) (v := u) hfR 4
      unfold sColl
      rw [this.1, if_pos rfl, if_neg (by omega)]
    have hpk : fPick nb (sReb nb F) 4 true = some u := hu
    obtain ⟨t1, t2, t3, t4, t5, t6⟩ := hT ht
    refine ⟨⟨hQ.1, hQR.1, fun _ => ?_⟩, ?_⟩
    · rw [hpk]; exact ⟨rfl, hC, ht⟩
    · unfold sLost
      rw [if_pos hf, hpk]
      refine ⟨t1, t2, fun b hb => ?_, u, u1, t5⟩
      show fUs (sColl nb (sReb nb F) u).2 b ≠ 0
      have hb2 : fOp (sReb nb F) = some b := by rw [← t3]; exact hb
      have := (hop b hb2).1
      have := t6 b hb2
      omega
  · refine ⟨⟨hQ.1, hQR.1, fun z => absurd z hf⟩, ?_⟩
    unfold sLost
    rw [if_neg hf]
    obtain ⟨c, hc, hz⟩ := cnt_ex (f := fun b => fUs (sReb nb F) b == 0) (n := nb) (by unfold fFree at hf; omega)
    exact ⟨hQR.mono (by omega), hPR, fun b hb => (hop b hb).1, c, hc, by simpa using hz⟩
/-! storing, putting, flushing -/
theorem store_ok {nb sp B : Nat} {F : Fl} (h : WS nb sp B F) (hB : B + 11 ≤ 90000) (hne : fBf F ≠ []) : StoreOK nb sp F ∧ ((sStore nb sp F).1 = true → WS nb sp (B + 11) (sStore nb sp F).2 ∧ fBf (sStore nb sp F).2 = (fBf F).tail) ∧ ((sStore nb sp F).1 = false → WX nb sp (B + 11) (sStore nb sp F).2) := by
  obtain ⟨hO, hT, hX⟩ := prov3 h.h (by omega)
  have hS : StoreOK nb sp F := ⟨hne, hO, fun ht => ⟨(hT ht).1.1.1.1, (hT ht).2, (hT ht).1.2⟩⟩
  refine ⟨hS, ?_⟩
  unfold sStore
  cases ht : (sProv nb sp 3 false F).1 with
  | false =>
    rw [if_neg (by decide)]
    exact ⟨(fun z => by rw [ht] at z; cases z), fun _ => (hX ht).mono (by omega)⟩
  | true =>
    rw [if_pos rfl]
    obtain ⟨⟨⟨gQ, gP, c, hc, huc, hoc⟩, b, hob, hub⟩, hbf⟩ := hT ht
    generalize (sProv nb sp 3 false F).2 = G at *
    have hsec : (hdB (fBf F)).1 < 4 * (nb - 3) := by
      cases hl : fBf F with
      | nil => exact absurd hl hne
      | cons e l => exact h.1.1.bs 0 e (by rw [hl]; rfl)
    have hobG : fOb (fOper G) = b := fOb_some (F := fOper G) hob
    have hbn : b < nb := gQ.1.op b hob
    cases hp : (sProg G (hdB (fBf F)).1 (hdB (fBf F)).2.1 (hdB (fBf F)).2.2).1 with
    | false =>
      rw [if_neg (by decide)]
      refine ⟨(fun z => by rw [hp] at z; cases z), fun _ => ?_⟩
      have hfu : fFu G = 1 := by
        rcases Decidable.em (fFu G = 1) with z | z
        · exact z
        · rw [sProg, if_neg z] at hp; cases hp
      rw [sProg, if_pos hfu]
      exact ⟨(gQ.mono (by omega)).blow, gP, Or.inl ⟨c, hc, huc⟩⟩
    | true =>
      rw [if_pos rfl, sProg_t hp]
      refine ⟨fun _ => ⟨?_, rfl⟩, fun z => by cases z⟩
      have hus : ∀ x, fUs (fSetBf (fProg (fOper G) (hdB (fBf F)).1 (hdB (fBf F)).2.1 (hdB (fBf F)).2.2) (fBf F).tail) x = if x = b then fUs G b + 1 else fUs G x := fun x => by
        show va_up (fUs G) (fOb (fOper G)) (fUs G (fOb (fOper G)) + 1) x = _
        rw [hobG]; rfl
      have hbc : c ≠ b := fun z => hoc (by rw [hob, z])
      refine ⟨((gQ.oper.prog (by omega) (by rw [hobG]; exact hbn) (by rw [hobG]; exact hub) hsec _ _).mono (by omega)).setBf ?_ ?_, fun x hx h0 h4 => ?_, fun x hx => ?_, c, hc, ?_⟩
      · have := h.1.1.bl
        rw [List.length_tail]; omega
      · intro k e he
        rw [List.getElem?_tail] at he
        exact h.1.1.bs (k + 1) e he
      · show fOp G = some x
        by_cases z : x = b
        · rw [z, hob]
        · rw [hus, if_neg z] at h0 h4
          exact gP x hx h0 h4
      · have hx2 : fOp G = some x := hx
        rw [hob] at hx2
        rw [hus, if_pos (Option.some.inj hx2).symm]
        omega
      · dsimp only
        rw [hus, if_neg hbc]
        exact huc
theorem put_ok {nb sp B q : Nat} {F : Fl} (h : WS nb sp B F) (hB : B + 16 ≤ 90000) (hq : q < 4 * (nb - 3)) (v : Int32) (t : Bool) : PutOK nb sp F q ∧ WS nb sp (B + 16) (sPut nb sp F q v t).2 := by
  have hset : ∀ {B' : Nat} {G : Fl} {bf : List (Nat × Int32 × Bool)}, WS nb sp B' G → bf.length ≤ 3 → (∀ (k : Nat) (e : Nat × Int32 × Bool), bf[k]? = some e → e.1 < 4 * (nb - 3)) → WS nb sp B' (fSetBf G bf) := fun hG h1 h2 => ⟨hG.1.setBf h1 h2, hG.2⟩
  have happ : ∀ {l : List (Nat × Int32 × Bool)}, (∀ (k : Nat) (e : Nat × Int32 × Bool), l[k]? = some e → e.1 < 4 * (nb - 3)) → ∀ (k : Nat) (e : Nat × Int32 × Bool), (l ++ [(q, v, t)])[k]? = some e → e.1 < 4 * (nb - 3) := fun hl k e he => by
    rcases Nat.lt_or_ge k (List.length _) with z | z
    · rw [List.getElem?_append_left z] at he; exact hl k e he
    · rw [List.getElem?_append_right z] at he
      rcases Nat.eq_zero_or_pos (k - List.length _) with z2 | z2
      · rw [z2] at he; cases he; exact hq
      · rw [List.getElem?_eq_none (by simp only [List.length_singleton]; omega)] at he; cases he
  have hl := h.1.1.bl
  unfold sPut PutOK
  cases hi : bfI (fBf F) q with
  | some k =>
    refine ⟨⟨h.1.1, fun z => by cases z⟩, hset (h.mono (by omega)) (by rw [List.length_set]; omega) fun j e he => ?_⟩
    rw [List.getElem?_set] at he
    split at he
    · split at he
      · cases he; exact hq
      · cases he
    · exact h.1.1.bs j e he
  | none =>
    dsimp only
    by_cases h3 : (fBf F).length = 3
    · rw [if_pos h3]
      have hne : fBf F ≠ [] := fun z => by rw [z] at h3; cases h3
      obtain ⟨hS, hT, hX⟩ := store_ok h (by omega) hne
      refine ⟨⟨h.1.1, fun _ _ => ⟨hS, fun ht => ⟨(hT ht).1.1.1, (hT ht).2⟩, fun hf => (lost_ok (hX hf) (by omega)).1⟩⟩, ?_⟩
      cases ht : (sStore nb sp F).1 with
      | true =>
        rw [if_pos rfl]
        have hW := (hT ht).1
        refine hset (hW.mono (by omega)) ?_ (happ hW.1.1.bs)
        rw [(hT ht).2, List.length_append, List.length_tail, List.length_singleton]; omega
      | false =>
        rw [if_neg (by decide)]
        exact (lost_ok (hX ht) (by omega)).2
    · rw [if_neg h3]
      refine ⟨⟨h.1.1, fun _ z => absurd z h3⟩, hset (h.mono (by omega)) ?_ (happ h.1.1.bs)⟩
      rw [List.length_append, List.length_singleton]; omega
theorem flush_ok {nb sp : Nat} : ∀ {n B : Nat} {F : Fl}, WS nb sp B F → (fBf F).length = n → B + (11 * n + 5) ≤ 90000 → FlushOK nb sp n F ∧ WS nb sp (B + (11 * n + 5)) (sFlush nb sp n F).2
  | 0, B, F, h, hl, hB => ⟨⟨h.1.1, List.eq_nil_of_length_eq_zero hl⟩, h.mono (by omega)⟩
  | n + 1, B, F, h, hl, hB => by
    have hne : fBf F ≠ [] := fun z => by rw [z] at hl; cases hl
    obtain ⟨hS, hT, hX⟩ := store_ok h (by omega) hne
    have hrec : (sStore nb sp F).1 = true → FlushOK nb sp n (sStore nb sp F).2 ∧ WS nb sp (B + 11 + (11 * n + 5)) (sFlush nb sp n (sStore nb sp F).2).2 := fun ht =>
      flush_ok (hT ht).1 (by rw [(hT ht).2, List.length_tail, hl]; rfl) (by omega)
    refine ⟨⟨h.1.1, hl, hS, fun ht => (hrec ht).1, fun hf => (lost_ok (hX hf) (by omega)).1⟩, ?_⟩
    unfold sFlush
    cases ht : (sStore nb sp F).1 with
    | true => rw [if_pos rfl]; exact (hrec ht).2.mono (by omega)
    | false => rw [if_neg (by decide)]; exact (lost_ok (hX ht) (by omega)).2.mono (by omega)
theorem chg_ok {nb sp B : Nat} {F : Fl} (h : WS nb sp B F) (hB : B + 40 ≤ 90000) (x v : Int32) (t : Bool) : ChgOK nb sp F x ∧ WS nb sp (B + 40) (sChg nb sp F x v t).2 := by
  have hnb := h.1.1.nb
  refine ⟨⟨h.1.1, fun q hq => (put_ok h (by omega) (inR_some (by omega) hq).2 v t).1⟩, ?_⟩
  unfold sChg
  cases hq : inR (4 * (nb - 3)) x with
  | none => exact h.mono (by omega)
  | some q => exact (put_ok h (by omega) (inR_some (by omega) hq).2 v t).2.mono (by omega)
theorem fuse_ok {nb sp B : Nat} {F : Fl} (h : WS nb sp B F) (x : Int32) : WS nb sp (B + 40) (sFuse F x).2 := by
  unfold sFuse
  cases hq : inR 1001 x with
  | none => exact h.mono (by omega)
  | some q => exact ⟨(h.1.mono (by omega)).setFu (by have := (inR_some (by omega) hq).2; omega), h.2⟩
/-- a new flash -/
def F0l : Fl := mkF (fun _ => 0) (fun _ => 0) (fun _ => 0) (fun _ => 0) (fun _ => 0) (fun _ => false) 0 none 0 0 []
theorem new_ok {nb sp : Nat} (h1 : 5 ≤ nb ∧ nb ≤ 12) (h2 : 1 ≤ sp ∧ sp ≤ 50) : WS nb sp 0 F0l := by
  have hp : ∀ p, ¬ prg F0l p = true := fun p h => by
    have : decide (p % 4 < 0) = true := h
    simp at this
  exact ⟨⟨⟨h1, h2, fun _ _ => Nat.zero_le _, fun p _ h => absurd h (hp p), fun p _ h => absurd h (hp p), Nat.zero_le _, fun _ _ => Nat.zero_le _, (fun b h => by cases h), Nat.zero_le _, Nat.zero_le _, (fun k e h => by cases h), fun p _ _ _ h => absurd h (hp p)⟩, Nat.le_refl _, fun _ _ => Nat.le_refl _⟩, (fun b _ h => absurd rfl h), (fun b h => by cases h), 0, by omega, rfl⟩
end
section
/-! MAKING: worlds as lists that grow -/
/-- the heap holds the list ws, whose addresses are of the kind A; since s nothing else has changed -/
def LW (D : va_G) (A : Nat → Prop) (s : State) (ws : va_W) (H : Heap) (locs : List Loc) : Prop := va_P D classes ws H ∧ va_D A ws ∧ va_S A s.heap H locs
/-- the addresses of a made object: it, and what is new -/
def AC (a N0 : Nat) : Nat → Prop := fun q => q = a ∨ N0 ≤ q
theorem RA_uniq {U : State} {a b : ClassId} {ty : FieldType} (h1 : va_RA U a ty) (h2 : va_RA U b ty) : a = b := by
  cases ty with
  | object C =>
    obtain ⟨-, -, -, -, -, h1⟩ := h1
    obtain ⟨-, -, -, -, -, h2⟩ := h2
    exact Option.some.inj (h1.symm.trans h2)
  | _ => exact Option.some.inj (Eq.trans (Eq.symm h1) h2)
theorem nI_nn {k : Nat} (h : k < 2 ^ 31) : ¬ nI k < 0 := by
  rw [Int32.lt_iff_toInt_lt, nI_toInt h]
  simp
section ZX
variable {p : Program} {l : Launch} {e : Env} {R : Room} {s : State} {m : MethodId} {args : Array Value} {below : List Frame} {meth : Method} {c : Code} {H : Heap} {locs : List Loc} {cells slots : Nat} {Q : State → Prop}
variable {cc : ByteArray} {nL pc : Nat} {ls : Array Slot} {rest : List Value} {D : va_G} {cs : Nat → ClassId} {own : String} {A : Nat → Prop} {ws : va_W}
theorem z_obj (C : Cc p m c cc nL s args own D cs) (hls : ls.size = nL) {idx : Nat} (hlink : Cond.methodLink own idx objectInit ∈ tbG) {a : Nat} (hf : 1 ≤ R.frames) (hlo : 20 ≤ R.locals) (hW : (rest.map fun v => v.category).sum ≤ 8) (hdg : decode cc pc = .ok (.invokespecial idx, 3))
    (kk : W p l e R s m args below meth c H locs cells slots Q (F0 m (pc + 3) ls rest)) : W p l e R s m args below meth c H locs cells slots Q (F0 m pc ls (.ref a :: rest)) := by
  have := lv_room (m := m) (pc := pc) (ls := ls) (rest := .ref a :: rest) hW
  exact W.objInit C.1.1 C.1.2.1 C.1.2.2.2.1 (C.2.1.hts args _ hlink) (C.2.1.hts args _ k_im_objectInit) (C.2.1.hts args _ k_cd_objectInit) rfl (hls.trans C.1.2.2.1.symm) rfl hdg hf (by omega) kk
theorem z_new (C : Cc p m c cc nL s args own D cs) (hL : LW D A s ws H locs) (hA : ∀ q, s.heap.size ≤ q → A q) {Cn : String} {T : u_T} {N ci index : Nat} (hin : ∀ w ∈ u_ws Cn T N, w ∈ tbG) (ty0 : Nat → FieldType) (hty : ∀ k, k < N → parseFieldDescriptor (T k).2.2.1 = some (ty0 k)) (hcl : Cond.classLink own index Cn ∈ tbG) (hinst : Cond.instantiable Cn N ∈ tbG) (hini : Cond.initialized Cn ∈ tbG) (hc : classes[ci]? = some (Cn, T, N)) {fs : List Value} (hfs : ∀ j, j < N → defaultValue (ty0 j) = vp_V fs j) (hf : cells + 1 ≤ R.cells ∧ slots + N ≤ R.slots) (hdg : decode cc pc = .ok (.new index, 3))
    (kk : ∀ (q : Nat) (H1 : Heap), LW D A s (ws ++ [(q, .inr (ci, fs))]) H1 locs → W p l e R s m args below meth c H1 locs (cells + 1) (slots + N) Q (F0 m (pc + 3) ls (.ref q :: rest))) : W p l e R s m args below meth c H locs cells slots Q (F0 m pc ls rest) :=
  va_new (D := D) (cl := classes) (ci := ci) (C := Cn) (T := T) (N := N) C.1.1 C.1.2.1 (C.2.1.hts args) hin ty0 hty C.1.2.2.2.1 (C.2.1.hts args _ hcl) (C.2.1.hts args _ hinst) (C.2.1.hts args _ hini) C.2.2 hL.1 hL.2.1 hL.2.2 hA hc hfs hf.1 hf.2 hdg (fun q H1 h1 h2 h3 => kk q H1 ⟨h1, h2, h3⟩)
theorem z_newa (C : Cc p m c cc nL s args own D cs) (hL : LW D A s ws H locs) (hA : ∀ q, s.heap.size ≤ q → A q) {atype : ArrayType} {ty : FieldType} (t0 : Nat) (hty : newarray.typeOf atype = ty) (hac : Cond.arrayClass ty ∈ tbG) {cT : ClassId} (ht : (tyC cs)[t0]? = some (cT, ty)) {N : Nat} (hd : defaultValue ty = .int 0) (hN : N < 1000) (hcb : componentBytes ty ≤ 4) (hf : cells + 1 ≤ R.cells ∧ slots + N ≤ R.slots) (hdg : decode cc pc = .ok (.newarray atype, 2))
    (kk : ∀ (q : Nat) (H1 : Heap), LW D A s (ws ++ [(q, .inl (cT, N, .inl (fun _ => 0)))]) H1 locs → W p l e R s m args below meth c H1 locs (cells + 1) (slots + N) Q (F0 m (pc + 2) ls (.ref q :: rest))) : W p l e R s m args below meth c H locs cells slots Q (F0 m pc ls (.int (nI N) :: rest)) := by
  subst hty
  refine va_newa (D := D) (cl := classes) (a0 := (N, .inl (fun _ => 0))) C.1.1 C.1.2.1 (C.2.1.hts args _ hac) rfl C.2.2 hL.1 hL.2.1 hL.2.2 hA (fun cA => by rw [hd]; rfl) (nI_nn (by omega)) (nI_clamp (by omega)) ?_ hf.1 hf.2 hdg (fun q cA H1 h0 h1 h2 h3 => ?_)
  · have := Nat.mul_le_mul_left N hcb
    omega
  · have e1 := (h0.2 5 (cA, newarray.typeOf atype) rfl).2
    have e2 := (C.2.2.2 t0 _ ht).2
    have e3 : cA = cT := RA_uniq e1 e2
    subst e3
    exact kk q H1 ⟨h1, h2, h3⟩
theorem z_newq (C : Cc p m c cc nL s args own D cs) (hL : LW D A s ws H locs) (hA : ∀ q, s.heap.size ≤ q → A q) {Cn : String} {index : Nat} (t0 : Nat) (hcl : Cond.classLink own index Cn ∈ tbG) (hao : va_AO Cn s) {cT : ClassId} (ht : (tyC cs)[t0]? = some (cT, .object Cn)) {N : Nat} (hN : N < 1000) (hf : cells + 1 ≤ R.cells ∧ slots + N ≤ R.slots) (hdg : decode cc pc = .ok (.anewarray index, 3))
    (kk : ∀ (q : Nat) (H1 : Heap), LW D A s (ws ++ [(q, .inl (cT, N, .inr (.inr (.inr (.inr (fun _ => none))))))]) H1 locs → W p l e R s m args below meth c H1 locs (cells + 1) (slots + N) Q (F0 m (pc + 3) ls (.ref q :: rest))) : W p l e R s m args below meth c H locs cells slots Q (F0 m pc ls (.int (nI N) :: rest)) := by
  refine va_newq (D := D) (cl := classes) C.1.1 C.1.2.1 C.1.2.2.2.1 (C.2.1.hts args _ hcl) hao C.2.2 hL.1 hL.2.1 hL.2.2 hA (nI_nn (by omega)) (nI_clamp (by omega)) (by omega) hf.1 hf.2 hdg (fun q cA H1 h0 h1 h2 h3 => ?_)
  have e1 := (h0.2 5 (cA, .object Cn) rfl).2
  have e2 := (C.2.2.2 t0 _ ht).2
  have e3 : cA = cT := RA_uniq e1 e2
  subst e3
  exact kk q H1 ⟨h1, h2, h3⟩
theorem z_put (C : Cc p m c cc nL s args own D cs) (hL : LW D A s ws H locs) {Cn : String} {T : u_T} {N ci index : Nat} (hin : ∀ w ∈ u_ws Cn T N, w ∈ tbG) (ty0 : Nat → FieldType) (hty : ∀ k, k < N → parseFieldDescriptor (T k).2.2.1 = some (ty0 k)) (hnm : ∀ a, a < N → ∀ b, b < N → a ≠ b → (T a).2.1 ≠ (T b).2.1) (j : Nat) {a : Nat} {fs : List Value} (he : ws[j]? = some (a, .inr (ci, fs))) (hc : classes[ci]? = some (Cn, T, N)) (k : Nat) (hk : k < N) (hlink : Cond.fieldLink own index own (T k).2.1 (T k).2.2.1 ∈ tbG) (hr : (T k).1 = own) (hi : meth.name = "<init>") {v : Value} (hn : narrow (ty0 k) v = v) (hfit : fits (ty0 k) v = true) (hl : k < fs.length) (hdg : decode cc pc = .ok (.putfield index, 3))
    (kk : ∀ (H1 : Heap) (locs1 : List Loc), LW D A s (ws.set j (a, .inr (ci, fs.set k v))) H1 locs1 → W p l e R s m args below meth c H1 locs1 cells slots Q (F0 m (pc + 3) ls rest)) : W p l e R s m args below meth c H locs cells slots Q (F0 m pc ls (v :: .ref a :: rest)) := by
  cases hfin : (T k).2.2.2 with
  | false => exact va_put (D := D) (cl := classes) (ci := ci) (C := Cn) (T := T) (N := N) C.1.1 C.1.2.1 (C.2.1.hts args) hin ty0 hty hnm C.1.2.2.2.1 C.2.2 hL.1 hL.2.1 hL.2.2 j he hc k hk (C.2.1.hts args _ hlink) (fun x h => by rw [← hr]; rw [hr] at h ⊢; exact h) hfin (hty k hk) hn hfit hl hdg (fun H1 locs1 h1 h2 h3 => kk H1 locs1 ⟨h1, h2, h3⟩)
  | true => exact va_putF (D := D) (cl := classes) (ci := ci) (C := Cn) (T := T) (N := N) C.1.1 C.1.2.1 (C.2.1.hts args) hin ty0 hty hnm C.1.2.2.2.1 C.2.2 hL.1 hL.2.1 hL.2.2 j he hc k hk (C.2.1.hts args _ hlink) (fun x h => by rw [hr] at h; exact h) hfin hi hr (hty k hk) hn hfit hl hdg (fun H1 locs1 h1 h2 h3 => kk H1 locs1 ⟨h1, h2, h3⟩)
theorem z_get (C : Cc p m c cc nL s args own D cs) (hL : LW D A s ws H locs) {Cn : String} {T : u_T} {N ci index : Nat} (hin : ∀ w ∈ u_ws Cn T N, w ∈ tbG) (j : Nat) {a : Nat} {fs : List Value} (he : ws[j]? = some (a, .inr (ci, fs))) (hc : classes[ci]? = some (Cn, T, N)) (k : Nat) (hk : k < N) (hlink : Cond.fieldLink own index own (T k).2.1 (T k).2.2.1 ∈ tbG) (hr : (T k).1 = own) {v : Value} (hv : fs[k]? = some v) (hdg : decode cc pc = .ok (.getfield index, 3))
    (kk : W p l e R s m args below meth c H locs cells slots Q (F0 m (pc + 3) ls (v :: rest))) : W p l e R s m args below meth c H locs cells slots Q (F0 m pc ls (.ref a :: rest)) :=
  va_get (D := D) (cl := classes) (ci := ci) (C := Cn) (T := T) (N := N) C.1.1 C.1.2.1 (C.2.1.hts args) hin C.1.2.2.2.1 C.2.2 hL.1 j he hc k hk (C.2.1.hts args _ hlink) (fun x h => by rw [hr] at h; exact h) hv hdg kk
theorem z_iast (C : Cc p m c cc nL s args own D cs) (hL : LW D A s ws H locs) (j : Nat) {a N : Nat} {f : Nat → Int32} (he : ws[j]? = some (a, .inl (cs 1, N, .inl f))) {i : Nat} {x : Int32} (hi : i < N) (hN : N < 2 ^ 31) (hdg : decode cc pc = .ok (.iastore, 1))
    (kk : ∀ (H1 : Heap) (locs1 : List Loc), LW D A s (ws.set j (a, .inl (cs 1, N, .inl (va_up f i x)))) H1 locs1 → W p l e R s m args below meth c H1 locs1 cells slots Q (F0 m (pc + 1) ls rest)) : W p l e R s m args below meth c H locs cells slots Q (F0 m pc ls (.int x :: .int (nI i) :: .ref a :: rest)) :=
  va_iast (D := D) (cl := classes) C.1.1 C.1.2.1 C.2.2 hL.1 hL.2.1 hL.2.2 j 1 he rfl (vp_in_nI hi hN) hdg (fun H1 locs1 h1 h2 h3 => kk H1 locs1 (by rw [x_cl hi hN, x_upd] at h1 h2; exact ⟨h1, h2, h3⟩))
theorem z_bast (C : Cc p m c cc nL s args own D cs) (hL : LW D A s ws H locs) (j : Nat) {a N : Nat} {f : Nat → Int32} (he : ws[j]? = some (a, .inl (cs 0, N, .inl f))) {i : Nat} {x v : Int32} (hi : i < N) (hN : N < 2 ^ 31) (hv : vp_nar .byte x = v) (hdg : decode cc pc = .ok (.bastore, 1))
    (kk : ∀ (H1 : Heap) (locs1 : List Loc), LW D A s (ws.set j (a, .inl (cs 0, N, .inl (va_up f i v)))) H1 locs1 → W p l e R s m args below meth c H1 locs1 cells slots Q (F0 m (pc + 1) ls rest)) : W p l e R s m args below meth c H locs cells slots Q (F0 m pc ls (.int x :: .int (nI i) :: .ref a :: rest)) :=
  va_bast (D := D) (cl := classes) C.1.1 C.1.2.1 C.2.2 hL.1 hL.2.1 hL.2.2 j 0 he rfl (vp_in_nI hi hN) hdg (fun H1 locs1 h1 h2 h3 => kk H1 locs1 (by rw [x_cl hi hN, x_upd, hv] at h1 h2; exact ⟨h1, h2, h3⟩))
theorem z_aald (C : Cc p m c cc nL s args own D cs) (hL : LW D A s ws H locs) (j : Nat) {a t0 N : Nat} {cA : ClassId} {Cn : String} {f : Nat → Option Nat} (he : ws[j]? = some (a, .inl (cA, N, .inr (.inr (.inr (.inr f)))))) (ht : (tyC cs)[t0]? = some (cA, .object Cn)) {i : Nat} (hi : i < N) (hN : N < 2 ^ 31) {v : Option Nat} (hv : f i = v) (hdg : decode cc pc = .ok (.aaload, 1))
    (kk : W p l e R s m args below meth c H locs cells slots Q (F0 m (pc + 1) ls (va_rf v :: rest))) : W p l e R s m args below meth c H locs cells slots Q (F0 m pc ls (.int (nI i) :: .ref a :: rest)) :=
  va_aldq (D := D) (cl := classes) C.1.1 C.1.2.1 C.2.2 hL.1 j t0 he ht (vp_in_nI hi hN) hdg (by rw [x_cl hi hN, hv]; exact kk)
theorem z_aast (C : Cc p m c cc nL s args own D cs) (hL : LW D A s ws H locs) (j : Nat) {a t0 N ci b : Nat} (jv : Nat) {cA : ClassId} {r : vw_C} {f : Nat → Option Nat} {vs : List Value} (he : ws[j]? = some (a, .inl (cA, N, .inr (.inr (.inr (.inr f)))))) (ht : (tyC cs)[t0]? = some (cA, .object r.1)) (hv : ws[jv]? = some (b, .inr (ci, vs))) (hc : classes[ci]? = some r) {i : Nat} (hi : i < N) (hN : N < 2 ^ 31) (hdg : decode cc pc = .ok (.aastore, 1))
    (kk : ∀ (H1 : Heap) (locs1 : List Loc), LW D A s (ws.set j (a, .inl (cA, N, .inr (.inr (.inr (.inr (va_up f i (some b)))))))) H1 locs1 → W p l e R s m args below meth c H1 locs1 cells slots Q (F0 m (pc + 1) ls rest)) : W p l e R s m args below meth c H locs cells slots Q (F0 m pc ls (.ref b :: .int (nI i) :: .ref a :: rest)) :=
  va_astq (D := D) (cl := classes) C.1.1 C.1.2.1 C.2.2 hL.1 hL.2.1 hL.2.2 j t0 jv ci he ht hv hc (vp_in_nI hi hN) hdg (fun H1 locs1 h1 h2 h3 => kk H1 locs1 (by rw [x_cl hi hN] at h1 h2; exact ⟨h1, h2, h3⟩))
theorem z_alen (C : Cc p m c cc nL s args own D cs) (hL : LW D A s ws H locs) (j : Nat) {a t0 : Nat} {cA : ClassId} {x : vp_A} {ty : FieldType} (he : ws[j]? = some (a, .inl (cA, x))) (ht : (tyC cs)[t0]? = some (cA, ty)) {N : Nat} (hN : x.1 = N) (hdg : decode cc pc = .ok (.arraylength, 1))
    (kk : W p l e R s m args below meth c H locs cells slots Q (F0 m (pc + 1) ls (.int (nI N) :: rest))) : W p l e R s m args below meth c H locs cells slots Q (F0 m pc ls (.ref a :: rest)) :=
  va_alen (D := D) (cl := classes) C.1.1 C.1.2.1 C.2.2 hL.1 j t0 he ht (by rw [hN]; rfl) hdg kk
/-- a loop over states, where cells are made -/
theorem W_grow {σ : Type} {st : List Value} (μ kc ks : σ → Nat) (Inv : σ → Heap → List Loc → Array Slot → Prop) (hstep : ∀ x H locs ls, Inv x H locs ls → (∀ x' H locs ls, μ x' < μ x → Inv x' H locs ls → W p l e R s m args below meth c H locs (kc x') (ks x') Q (F0 m pc ls st)) → W p l e R s m args below meth c H locs (kc x) (ks x) Q (F0 m pc ls st)) (x : σ) (h : Inv x H locs ls) : W p l e R s m args below meth c H locs (kc x) (ks x) Q (F0 m pc ls st) := by
  suffices ∀ k x, μ x < k → ∀ H locs ls, Inv x H locs ls → W p l e R s m args below meth c H locs (kc x) (ks x) Q (F0 m pc ls st) from this _ x (Nat.lt_succ_self _) H locs ls h
  intro k
  induction k with
  | zero => intro x hx; omega
  | succ k ih =>
    intro x hx H locs ls h
    exact hstep x H locs ls h (fun x' H locs ls hl h' => ih x' (by omega) H locs ls h')
end ZX
/-! the constructors that make nothing -/
abbrev NW (l : Launch) (D : va_G) (cs : Nat → ClassId) (y : MethodName) (cc : ByteArray) (d : Nat) (a : Nat) : Prop := MC l D cs y cc 1 none d 0 0 [.ref a] (fun _ => True) (va_Qv (S := Unit) (fun _ => True) (fun _ _ => True) (fun _ => False)) (fun _ => False)
section ZC
variable {p : Program} {l : Launch} {e : Env} {R : Room} {s : State} {m : MethodId} {args : Array Value} {below : List Frame} {meth : Method} {c : Code} {H : Heap} {locs : List Loc} {cells slots : Nat} {Q : State → Prop}
variable {cc : ByteArray} {nL pc : Nat} {ls : Array Slot} {rest : List Value} {D : va_G} {cs : Nat → ClassId} {own : String} {A : Nat → Prop} {ws : va_W}
theorem rt_NW (C : Cc p m c cc nL s args own D cs) (hr : meth.sig.returnType = none) (hlocks : meth.locks = false) (hdg : decode cc pc = .ok (.return_, 1)) : W p l e R s m args below meth c s.heap [] 0 0 (MQ below (va_Qv (S := Unit) (fun _ => True) (fun _ _ => True) (fun _ => False)) args s 0 0 (fun _ => False)) (F0 m pc ls []) :=
  W.vret C.1.1 C.1.2.1 hr (fun t ht _ => ⟨⟨(), rfl, trivial, trivial⟩, by rw [ht]; exact Nat.le_refl _, fun q _ _ => by rw [ht]⟩) (fun _ h => by cases h) hdg
theorem LW.kept {H1 : Heap} {locs1 : List Loc} (hL : LW D A s ws H locs) (hk : ∀ q : Nat, q < H.size → H1[q]? = H[q]?) (hS : va_S A s.heap H1 locs1) : LW D A s ws H1 locs1 := ⟨hL.1.kept (fun k q hq => hk q.1 ((hL.1 k q hq).lt)), hL.2.1, hS⟩
/-- a call of a constructor that makes nothing -/
theorem z_cN {host : String} {y : MethodName} {bytes : ByteArray} {d index a : Nat} (C : Cc p m c cc nL s args own D cs) (hL : LW D A s ws H locs) (hM : NW l D cs y bytes d a) (Y : Yc y bytes 1 none 0) (hi : y.name = "<init>") (him : Cond.instanceMethod y ∈ tbG) (hl : Cond.methodLinkNest own index y host ∈ tbN) (hR : d + 1 ≤ R.frames ∧ 8 + (1 + 11) + 27 * d ≤ R.locals) (hls : ls.size = nL) (hW : (rest.map fun v => v.category).sum ≤ 8) (hdg : decode cc pc = .ok (.invokespecial index, 3)) (hf : cells ≤ R.cells ∧ slots ≤ R.slots)
    (kk : ∀ (H1 : Heap) (locs1 : List Loc), LW D A s ws H1 locs1 → W p l e R s m args below meth c H1 locs1 cells slots Q (F0 m (pc + 3) ls rest)) : W p l e R s m args below meth c H locs cells slots Q (F0 m pc ls (.ref a :: rest)) :=
  va_callv (run_IN (As := []) (host := host) C hM Y hi him hl hR trivial rfl hls rfl hW hdg hf) hL.2.2 (fun _ _ h => h.elim) (fun _ h => h.elim) (fun u t H1 locs1 ht _ hp hB hz hk hS => kk H1 locs1 (hL.kept (fun q hq => hk q hq (fun h => h)) hS))
theorem z_cI {y : MethodName} {bytes : ByteArray} {d index a : Nat} (C : Cc p m c cc nL s args own D cs) (hL : LW D A s ws H locs) (hM : NW l D cs y bytes d a) (Y : Yc y bytes 1 none 0) (hi : y.name = "<init>") (him : Cond.instanceMethod y ∈ tbG) (hl : Cond.methodLink own index y ∈ tbG) (hR : d + 1 ≤ R.frames ∧ 8 + (1 + 11) + 27 * d ≤ R.locals) (hls : ls.size = nL) (hW : (rest.map fun v => v.category).sum ≤ 8) (hdg : decode cc pc = .ok (.invokespecial index, 3)) (hf : cells ≤ R.cells ∧ slots ≤ R.slots)
    (kk : ∀ (H1 : Heap) (locs1 : List Loc), LW D A s ws H1 locs1 → W p l e R s m args below meth c H1 locs1 cells slots Q (F0 m (pc + 3) ls rest)) : W p l e R s m args below meth c H locs cells slots Q (F0 m pc ls (.ref a :: rest)) :=
  va_callv (run_I (As := []) C hM Y hi him hl hR trivial rfl hls rfl hW hdg hf) hL.2.2 (fun _ _ h => h.elim) (fun _ h => h.elim) (fun u t H1 locs1 ht _ hp hB hz hk hS => kk H1 locs1 (hL.kept (fun q hq => hk q hq (fun h => h)) hS))
theorem rt_NS (C : Cc p m c cc nL s args own D cs) (hL : LW D (fun _ => False) s ws H locs) (hr : meth.sig.returnType = none) (hlocks : meth.locks = false) (hdg : decode cc pc = .ok (.return_, 1)) : W p l e R s m args below meth c H locs 0 0 (MQ below (va_Qv (S := Unit) (fun _ => True) (fun _ _ => True) (fun _ => False)) args s 0 0 (fun _ => False)) (F0 m pc ls []) :=
  W.vret C.1.1 C.1.2.1 hr (fun t ht _ => ⟨⟨(), rfl, trivial, trivial⟩, hL.2.2.F ht⟩) hL.2.2.2.2 hdg
/-- the end of a constructor -/
theorem rt_new {S : Type} {post : S → Prop} {B : S → State → Prop} {mc ms : Nat} (C : Cc p m c cc nL s args own D cs) (hL : LW D A s ws H locs) (hr : meth.sig.returnType = none) (hlocks : meth.locks = false) (u : S) (hp : post u) (hB : ∀ t : State, t.heap = H → B u t) (hc : cells ≤ mc) (hs : slots ≤ ms) (hdg : decode cc pc = .ok (.return_, 1)) : W p l e R s m args below meth c H locs cells slots (MQ below (va_Qv post B A) args s mc ms A) (F0 m pc ls []) :=
  W.widen hc hs (W.vret C.1.1 C.1.2.1 hr (fun t ht _ => ⟨⟨u, rfl, hp, hB t ht⟩, hL.2.2.F ht⟩) hL.2.2.2.2 hdg)
end ZC
section ZE
variable {l : Launch} {D : va_G} {cs : Nat → ClassId}
theorem c_E_init (a : Nat) : NW l D cs y_E_init b_E_init 1 a := by
  refine MC.intro (by decide) (Nat.le_of_ble_eq_true rfl) ?_
  intro p e s m below meth c C hr hlk hnm hH ls hl
  refine lv_aload_n C.1.1 C.1.2.1 d_E_init_0 rfl (lv_at hl 0 rfl) ?_
  refine z_obj C hl.1 k_ml_E_1 (by decide) (by decide) (Nat.le_of_ble_eq_true rfl) d_E_init_1 ?_
  exact rt_NW C hr hlk d_E_init_4
theorem c_J_recInit (a : Nat) : NW l D cs y_J_recInit b_J_recInit 1 a := by
  refine MC.intro (by decide) (Nat.le_of_ble_eq_true rfl) ?_
  intro p e s m below meth c C hr hlk hnm hH ls hl
  refine lv_aload_n C.1.1 C.1.2.1 d_J_recInit_0 rfl (lv_at hl 0 rfl) ?_
  refine z_obj C hl.1 k_ml_Rec_1 (by decide) (by decide) (Nat.le_of_ble_eq_true rfl) d_J_recInit_1 ?_
  exact rt_NW C hr hlk d_J_recInit_4
theorem c_G_init (a : Nat) : NW l D cs y_G_init b_G_init 2 a := by
  refine MC.intro (by decide) (Nat.le_of_ble_eq_true rfl) ?_
  intro p e s m below meth c C hr hlk hnm hH ls hl
  refine lv_aload_n C.1.1 C.1.2.1 d_G_init_0 rfl (lv_at hl 0 rfl) ?_
  refine z_cI (ws := []) C ⟨fun k q h => (by cases h), ⟨fun i j p q h => (by cases h), fun k q h => (by cases h)⟩, va_S.rf⟩ (A := fun _ => False) (c_J_recInit a) yc_J_recInit rfl k_im_J_recInit k_ml_G_1 (by decide) hl.1 (Nat.le_of_ble_eq_true rfl) d_G_init_1 ⟨Nat.le_refl _, Nat.le_refl _⟩ (fun H locs hL => ?_)
  exact rt_NS C hL hr hlk d_G_init_4
theorem c_V_init (a : Nat) : NW l D cs y_V_init b_V_init 2 a := by
  refine MC.intro (by decide) (Nat.le_of_ble_eq_true rfl) ?_
  intro p e s m below meth c C hr hlk hnm hH ls hl
  refine lv_aload_n C.1.1 C.1.2.1 d_V_init_0 rfl (lv_at hl 0 rfl) ?_
  refine z_cI (ws := []) C ⟨fun k q h => (by cases h), ⟨fun i j p q h => (by cases h), fun k q h => (by cases h)⟩, va_S.rf⟩ (A := fun _ => False) (c_J_recInit a) yc_J_recInit rfl k_im_J_recInit k_ml_V_1 (by decide) hl.1 (Nat.le_of_ble_eq_true rfl) d_V_init_1 ⟨Nat.le_refl _, Nat.le_refl _⟩ (fun H locs hL => ?_)
  exact rt_NS C hL hr hlk d_V_init_4
end ZE
end
section
/-! THE CONSTRUCTORS -/
abbrev z_B : List Value := [.int 0, .int 0, .int 0, .int 0, .null, .null, .null, .null]
theorem z_B_ok : ∀ j, j < 8 → defaultValue (t_B j) = vp_V z_B j := by decide +kernel
abbrev z_E : List Value := [.int 0, .int 0, .int 0]
theorem z_E_ok : ∀ j, j < 3 → defaultValue (t_E j) = vp_V z_E j := by decide +kernel
theorem z_G_ok : ∀ j, j < 0 → defaultValue (t_G j) = vp_V [] j := by decide +kernel
theorem z_V_ok : ∀ j, j < 0 → defaultValue (t_V j) = vp_V [] j := by decide +kernel
abbrev z_W : List Value := [.int 0, .null, .null, .int 0, .int 0, .int 0, .null, .null, .int 0, .null, .int 0, .null, .null]
theorem z_W_ok : ∀ j, j < 13 → defaultValue (t_W j) = vp_V z_W j := by decide +kernel
abbrev z_M : List Value := [.int 0, .int 0, .null, .null, .null, .null, .null, .int 0, .int 0, .int 0, .int 0, .int 0, .int 0, .null, .null, .null]
theorem z_M_ok : ∀ j, j < 16 → defaultValue (t_M j) = vp_V z_M j := by decide +kernel
theorem D_one {A : Nat → Prop} {a : Nat} {x : va_E} (h : A a) : va_D A [(a, x)] := by
  refine ⟨fun i j p q hi hj _ => ?_, fun k q hk => ?_⟩
  · have h1 : i < 1 := (List.getElem?_eq_some_iff.mp hi).1
    have h2 : j < 1 := (List.getElem?_eq_some_iff.mp hj).1
    omega
  · have h1 : k < 1 := (List.getElem?_eq_some_iff.mp hk).1
    rw [show k = 0 by omega] at hk
    cases hk
    exact h
/-- a new block's cells -/
def bE (u : Nat → Nat) (cs : Nat → ClassId) (b : Nat) (j : Nat) : va_E := match j with
  | 0 => .inr (0, [.int (nI b), .int 0, .int 0, .int 0, .ref (u 1), .ref (u 2), .ref (u 3), .ref (u 4)])
  | 1 => .inl (cs 0, 4, .inl (fun _ => 0))
  | 2 => .inl (cs 1, 4, .inl (fun _ => 0))
  | 3 => .inl (cs 1, 4, .inl (fun _ => 0))
  | _ => .inl (cs 2, 4, .inl (fun _ => 0))
section CI
variable {l : Launch} {D : va_G} {cs : Nat → ClassId}
theorem c_B_init (a b N0 : Nat) : MC l D cs y_B_init b_B_init 2 none 1 4 16 [.ref a, .int (nI b)] (fun H => va_P D classes [(a, .inr (0, z_B))] H ∧ H.size = N0) (va_Qv (S := Nat → Nat) (fun u => u 0 = a ∧ va_D (AC a N0) (wX u 5 (bE u cs b))) (fun u t => va_P D classes (wX u 5 (bE u cs b)) t.heap) (AC a N0)) (AC a N0) := by
  refine MC.intro (by decide) (Nat.le_of_ble_eq_true rfl) ?_
  intro p e s m below meth c C hr hlk hnm hH ls hl
  have hx := C.1.1
  have hb := C.1.2.1
  have hA : ∀ q, s.heap.size ≤ q → AC a N0 q := fun q h => Or.inr (by rw [← hH.2]; exact h)
  have hL : LW D (AC a N0) s [(a, .inr (0, z_B))] s.heap [] := ⟨hH.1, D_one (Or.inl rfl), va_S.rf⟩
  refine lv_aload_n hx hb d_B_init_0 rfl (lv_at hl 0 rfl) ?_
  refine z_obj C hl.1 k_ml_B_3 (by decide) (by decide) (Nat.le_of_ble_eq_true rfl) d_B_init_1 ?_
  refine lv_aload_n hx hb d_B_init_4 rfl (lv_at hl 0 rfl) ?_
  refine lv_iconst (v := nI 4) hx hb d_B_init_5 (by decide) ?_
  refine z_newa (atype := .byte) (ty := .byte) C hL hA 0 rfl k_ac_byte rfl rfl (by omega) (by decide) (by decide) d_B_init_6 (fun q1 H hL => ?_)
  refine z_put C hL i_B t_B t_B_ok n_B 0 rfl (ci := 0) rfl 4 (by decide) k_fl_B_9 rfl hnm rfl rfl (Nat.le_of_ble_eq_true rfl) d_B_init_8 (fun H locs hL => ?_)
  refine lv_aload_n hx hb d_B_init_11 rfl (lv_at hl 0 rfl) ?_
  refine lv_iconst (v := nI 4) hx hb d_B_init_12 (by decide) ?_
  refine z_newa (atype := .int) (ty := .int) C hL hA 1 rfl k_ac_int rfl rfl (by omega) (by decide) (by decide) d_B_init_13 (fun q2 H hL => ?_)
  refine z_put C hL i_B t_B t_B_ok n_B 0 rfl (ci := 0) rfl 5 (by decide) k_fl_B_15 rfl hnm rfl rfl (Nat.le_of_ble_eq_true rfl) d_B_init_15 (fun H locs hL => ?_)
  refine lv_aload_n hx hb d_B_init_18 rfl (lv_at hl 0 rfl) ?_
  refine lv_iconst (v := nI 4) hx hb d_B_init_19 (by decide) ?_
  refine z_newa (atype := .int) (ty := .int) C hL hA 1 rfl k_ac_int rfl rfl (by omega) (by decide) (by decide) d_B_init_20 (fun q3 H hL => ?_)
  refine z_put C hL i_B t_B t_B_ok n_B 0 rfl (ci := 0) rfl 6 (by decide) k_fl_B_19 rfl hnm rfl rfl (Nat.le_of_ble_eq_true rfl) d_B_init_22 (fun H locs hL => ?_)
  refine lv_aload_n hx hb d_B_init_25 rfl (lv_at hl 0 rfl) ?_
  refine lv_iconst (v := nI 4) hx hb d_B_init_26 (by decide) ?_
  refine z_newa (atype := .boolean) (ty := .boolean) C hL hA 2 rfl k_ac_boolean rfl rfl (by omega) (by decide) (by decide) d_B_init_27 (fun q4 H hL => ?_)
  refine z_put C hL i_B t_B t_B_ok n_B 0 rfl (ci := 0) rfl 7 (by decide) k_fl_B_22 rfl hnm rfl rfl (Nat.le_of_ble_eq_true rfl) d_B_init_29 (fun H locs hL => ?_)
  refine lv_aload_n hx hb d_B_init_32 rfl (lv_at hl 0 rfl) ?_
  refine lv_iload_n hx hb d_B_init_33 rfl (lv_at hl 1 rfl) ?_
  refine z_put C hL i_B t_B t_B_ok n_B 0 rfl (ci := 0) rfl 0 (by decide) k_fl_B_26 rfl hnm rfl rfl (Nat.le_of_ble_eq_true rfl) d_B_init_34 (fun H locs hL => ?_)
  exact rt_new C hL hr hlk (fun j => [a, q1, q2, q3, q4].getD j 0) ⟨rfl, hL.2.1⟩ (fun t ht => by rw [ht]; exact hL.1) (by decide) (by decide) d_B_init_37
end CI
end
section
/-! THE TWIN's constructor -/
/-- a number of the range, or the default -/
def clp (lo hi d : Nat) (x : Int32) : Nat := if x < nI lo ∨ ¬ x ≤ nI hi then d else x.toInt.toNat
theorem clp_lo {lo hi d : Nat} {x : Int32} (h : x < nI lo) : nI d = nI (clp lo hi d x) := by rw [clp, if_pos (Or.inl h)]
theorem clp_hi {lo hi d : Nat} {x : Int32} (h : ¬ x ≤ nI hi) : nI d = nI (clp lo hi d x) := by rw [clp, if_pos (Or.inr h)]
theorem clp_eq {lo hi d : Nat} {x : Int32} (hh : hi < 2 ^ 31) (hl : lo ≤ hi) (h1 : ¬ x < nI lo) (h2 : x ≤ nI hi) : ∃ k, lo ≤ k ∧ k ≤ hi ∧ x = nI k ∧ clp lo hi d x = k := by
  rw [Int32.lt_iff_toInt_lt, nI_toInt (by omega)] at h1
  rw [Int32.le_iff_toInt_le, nI_toInt (by omega)] at h2
  have h3 : ¬ (x < nI lo ∨ ¬ x ≤ nI hi) := by
    rw [Int32.lt_iff_toInt_lt, nI_toInt (by omega), Int32.le_iff_toInt_le, nI_toInt (by omega)]
    omega
  refine ⟨x.toInt.toNat, by omega, by omega, Int32.toInt_inj.mp ?_, by rw [clp, if_neg h3]⟩
  rw [nI_toInt (by omega)]
  omega
theorem clp_in {lo hi d : Nat} {x : Int32} (hh : hi < 2 ^ 31) (hl : lo ≤ hi) (h1 : ¬ x < nI lo) (h2 : x ≤ nI hi) : x = nI (clp lo hi d x) := by
  obtain ⟨k, -, -, e, h⟩ := clp_eq (d := d) hh hl h1 h2
  rw [h]; exact e
theorem clp_ok {lo hi d : Nat} (x : Int32) (hh : hi < 2 ^ 31) (h1 : lo ≤ d) (h2 : d ≤ hi) : lo ≤ clp lo hi d x ∧ clp lo hi d x ≤ hi := by
  by_cases z1 : x < nI lo
  · rw [clp, if_pos (Or.inl z1)]; exact ⟨h1, h2⟩
  · by_cases z2 : x ≤ nI hi
    · obtain ⟨k, k1, k2, -, h⟩ := clp_eq (d := d) hh (by omega) z1 z2
      rw [h]; exact ⟨k1, k2⟩
    · rw [clp, if_pos (Or.inr z2)]; exact ⟨h1, h2⟩
abbrev nbOf (x : Int32) : Nat := clp 5 12 8 x
abbrev spOf (x : Int32) : Nat := clp 1 50 4 x
theorem nbOf_ok (x : Int32) : 5 ≤ nbOf x ∧ nbOf x ≤ 12 := clp_ok x (by omega) (by omega) (by omega)
theorem spOf_ok (x : Int32) : 1 ≤ spOf x ∧ spOf x ≤ 50 := clp_ok x (by omega) (by omega) (by omega)
theorem prg_F0 (p : Nat) : prg F0l p = false := by
  show decide (p % 4 < 0) = false
  simp
section MI
variable {p : Program} {l : Launch} {e : Env} {R : Room} {s : State} {m : MethodId} {args : Array Value} {below : List Frame} {meth : Method} {c : Code} {H : Heap} {locs : List Loc} {cells slots : Nat} {Q : State → Prop}
theorem W_to {g : JFrame} (g2 : JFrame) (br : W p l e R s m args below meth c H locs cells slots Q g2 → W p l e R s m args below meth c H locs cells slots Q g) (k : W p l e R s m args below meth c H locs cells slots Q g2) : W p l e R s m args below meth c H locs cells slots Q g := br k
end MI
section CM
variable {l : Launch} {D : va_G} {cs : Nat → ClassId}
abbrev mZ (cs : Nat → ClassId) (k : Nat) : va_E := .inl (cs 1, k, .inl (fun _ => 0))
abbrev mL (cs : Nat → ClassId) (nb sp a q1 q2 q3 q4 q5 q6 q7 q8 : Nat) (f : Nat → Int32) : va_W := [(a, .inr (5, [.int (nI nb), .int (nI sp), .ref q1, .ref q2, .ref q3, .ref q4, .ref q5, .int 0, .int (-1), .int 0, .int 0, .int 0, .int 0, .ref q6, .ref q7, .ref q8])), (q1, .inl (cs 1, 48, .inl f)), (q2, mZ cs 48), (q3, mZ cs 48), (q4, mZ cs 48), (q5, mZ cs 12), (q6, mZ cs 3), (q7, mZ cs 3), (q8, mZ cs 3)]
theorem c_M_init (a N0 : Nat) (xa xb : Int32) : MC l D cs y_M_init b_M_init 4 none 1 8 213 [.ref a, .int xa, .int xb] (fun H => va_P D classes [(a, .inr (5, z_M))] H ∧ H.size = N0) (va_Qv (S := (Nat → Nat) × SM) (fun u => u.1 0 = a ∧ va_D (AC a N0) (wX u.1 9 (eM u.1 cs u.2)) ∧ RM (nbOf xa) (spOf xb) F0l u.2) (fun u t => va_P D classes (wX u.1 9 (eM u.1 cs u.2)) t.heap) (AC a N0)) (AC a N0) := by
  refine MC.intro (by decide) (Nat.le_of_ble_eq_true rfl) ?_
  intro p e s m below meth c C hr hlk hnm hH ls hl
  have hx := C.1.1
  have hb := C.1.2.1
  have hA : ∀ q, s.heap.size ≤ q → AC a N0 q := fun q h => Or.inr (by rw [← hH.2]; exact h)
  have hL : LW D (AC a N0) s [(a, .inr (5, z_M))] s.heap [] := ⟨hH.1, D_one (Or.inl rfl), va_S.rf⟩
  refine lv_aload_n hx hb d_M_init_0 rfl (lv_at hl 0 rfl) ?_
  refine z_obj C hl.1 k_ml_M_1 (by decide) (by decide) (Nat.le_of_ble_eq_true rfl) d_M_init_1 ?_
  refine lv_aload_n hx hb d_M_init_4 rfl (lv_at hl 0 rfl) ?_
  refine lv_bipush (v := nI 48) hx hb d_M_init_5 (by decide) ?_
  refine z_newa (atype := .int) (ty := .int) C hL hA 1 rfl k_ac_int rfl rfl (by omega) (by decide) (by decide) d_M_init_7 (fun q1 H hL => ?_)
  refine z_put C hL i_M t_M t_M_ok n_M 0 rfl (ci := 5) rfl 2 (by decide) k_fl_M_7 rfl hnm rfl rfl (Nat.le_of_ble_eq_true rfl) d_M_init_9 (fun H locs hL => ?_)
  replace hL : LW D (AC a N0) s [(a, .inr (5, [.int 0, .int 0, .ref q1, .null, .null, .null, .null, .int 0, .int 0, .int 0, .int 0, .int 0, .int 0, .null, .null, .null])), (q1, mZ cs 48)] H locs := hL
  refine lv_aload_n hx hb d_M_init_12 rfl (lv_at hl 0 rfl) ?_
  refine lv_bipush (v := nI 48) hx hb d_M_init_13 (by decide) ?_
  refine z_newa (atype := .int) (ty := .int) C hL hA 1 rfl k_ac_int rfl rfl (by omega) (by decide) (by decide) d_M_init_15 (fun q2 H hL => ?_)
  refine z_put C hL i_M t_M t_M_ok n_M 0 rfl (ci := 5) rfl 3 (by decide) k_fl_M_13 rfl hnm rfl rfl (Nat.le_of_ble_eq_true rfl) d_M_init_17 (fun H locs hL => ?_)
  replace hL : LW D (AC a N0) s [(a, .inr (5, [.int 0, .int 0, .ref q1, .ref q2, .null, .null, .null, .int 0, .int 0, .int 0, .int 0, .int 0, .int 0, .null, .null, .null])), (q1, mZ cs 48), (q2, mZ cs 48)] H locs := hL
  refine lv_aload_n hx hb d_M_init_20 rfl (lv_at hl 0 rfl) ?_
  refine lv_bipush (v := nI 48) hx hb d_M_init_21 (by decide) ?_
  refine z_newa (atype := .int) (ty := .int) C hL hA 1 rfl k_ac_int rfl rfl (by omega) (by decide) (by decide) d_M_init_23 (fun q3 H hL => ?_)
  refine z_put C hL i_M t_M t_M_ok n_M 0 rfl (ci := 5) rfl 4 (by decide) k_fl_M_16 rfl hnm rfl rfl (Nat.le_of_ble_eq_true rfl) d_M_init_25 (fun H locs hL => ?_)
  replace hL : LW D (AC a N0) s [(a, .inr (5, [.int 0, .int 0, .ref q1, .ref q2, .ref q3, .null, .null, .int 0, .int 0, .int 0, .int 0, .int 0, .int 0, .null, .null, .null])), (q1, mZ cs 48), (q2, mZ cs 48), (q3, mZ cs 48)] H locs := hL
  refine lv_aload_n hx hb d_M_init_28 rfl (lv_at hl 0 rfl) ?_
  refine lv_bipush (v := nI 48) hx hb d_M_init_29 (by decide) ?_
  refine z_newa (atype := .int) (ty := .int) C hL hA 1 rfl k_ac_int rfl rfl (by omega) (by decide) (by decide) d_M_init_31 (fun q4 H hL => ?_)
  refine z_put C hL i_M t_M t_M_ok n_M 0 rfl (ci := 5) rfl 5 (by decide) k_fl_M_19 rfl hnm rfl rfl (Nat.le_of_ble_eq_true rfl) d_M_init_33 (fun H locs hL => ?_)
  replace hL : LW D (AC a N0) s [(a, .inr (5, [.int 0, .int 0, .ref q1, .ref q2, .ref q3, .ref q4, .null, .int 0, .int 0, .int 0, .int 0, .int 0, .int 0, .null, .null, .null])), (q1, mZ cs 48), (q2, mZ cs 48), (q3, mZ cs 48), (q4, mZ cs 48)] H locs := hL
  refine lv_aload_n hx hb d_M_init_36 rfl (lv_at hl 0 rfl) ?_
  refine lv_bipush (v := nI 12) hx hb d_M_init_37 (by decide) ?_
  refine z_newa (atype := .int) (ty := .int) C hL hA 1 rfl k_ac_int rfl rfl (by omega) (by decide) (by decide) d_M_init_39 (fun q5 H hL => ?_)
  refine z_put C hL i_M t_M t_M_ok n_M 0 rfl (ci := 5) rfl 6 (by decide) k_fl_M_22 rfl hnm rfl rfl (Nat.le_of_ble_eq_true rfl) d_M_init_41 (fun H locs hL => ?_)
  replace hL : LW D (AC a N0) s [(a, .inr (5, [.int 0, .int 0, .ref q1, .ref q2, .ref q3, .ref q4, .ref q5, .int 0, .int 0, .int 0, .int 0, .int 0, .int 0, .null, .null, .null])), (q1, mZ cs 48), (q2, mZ cs 48), (q3, mZ cs 48), (q4, mZ cs 48), (q5, mZ cs 12)] H locs := hL
  refine lv_aload_n hx hb d_M_init_44 rfl (lv_at hl 0 rfl) ?_
  refine lv_iconst (v := -1) hx hb d_M_init_45 (by decide) ?_
  refine z_put C hL i_M t_M t_M_ok n_M 0 rfl (ci := 5) rfl 8 (by decide) k_fl_M_25 rfl hnm rfl rfl (Nat.le_of_ble_eq_true rfl) d_M_init_46 (fun H locs hL => ?_)
  replace hL : LW D (AC a N0) s [(a, .inr (5, [.int 0, .int 0, .ref q1, .ref q2, .ref q3, .ref q4, .ref q5, .int 0, .int (-1), .int 0, .int 0, .int 0, .int 0, .null, .null, .null])), (q1, mZ cs 48), (q2, mZ cs 48), (q3, mZ cs 48), (q4, mZ cs 48), (q5, mZ cs 12)] H locs := hL
  refine lv_aload_n hx hb d_M_init_49 rfl (lv_at hl 0 rfl) ?_
  refine lv_iconst (v := nI 3) hx hb d_M_init_50 (by decide) ?_
  refine z_newa (atype := .int) (ty := .int) C hL hA 1 rfl k_ac_int rfl rfl (by omega) (by decide) (by decide) d_M_init_51 (fun q6 H hL => ?_)
  refine z_put C hL i_M t_M t_M_ok n_M 0 rfl (ci := 5) rfl 13 (by decide) k_fl_M_29 rfl hnm rfl rfl (Nat.le_of_ble_eq_true rfl) d_M_init_53 (fun H locs hL => ?_)
  replace hL : LW D (AC a N0) s [(a, .inr (5, [.int 0, .int 0, .ref q1, .ref q2, .ref q3, .ref q4, .ref q5, .int 0, .int (-1), .int 0, .int 0, .int 0, .int 0, .ref q6, .null, .null])), (q1, mZ cs 48), (q2, mZ cs 48), (q3, mZ cs 48), (q4, mZ cs 48), (q5, mZ cs 12), (q6, mZ cs 3)] H locs := hL
  refine lv_aload_n hx hb d_M_init_56 rfl (lv_at hl 0 rfl) ?_
  refine lv_iconst (v := nI 3) hx hb d_M_init_57 (by decide) ?_
  refine z_newa (atype := .int) (ty := .int) C hL hA 1 rfl k_ac_int rfl rfl (by omega) (by decide) (by decide) d_M_init_58 (fun q7 H hL => ?_)
  refine z_put C hL i_M t_M t_M_ok n_M 0 rfl (ci := 5) rfl 14 (by decide) k_fl_M_32 rfl hnm rfl rfl (Nat.le_of_ble_eq_true rfl) d_M_init_60 (fun H locs hL => ?_)
  replace hL : LW D (AC a N0) s [(a, .inr (5, [.int 0, .int 0, .ref q1, .ref q2, .ref q3, .ref q4, .ref q5, .int 0, .int (-1), .int 0, .int 0, .int 0, .int 0, .ref q6, .ref q7, .null])), (q1, mZ cs 48), (q2, mZ cs 48), (q3, mZ cs 48), (q4, mZ cs 48), (q5, mZ cs 12), (q6, mZ cs 3), (q7, mZ cs 3)] H locs := hL
  refine lv_aload_n hx hb d_M_init_63 rfl (lv_at hl 0 rfl) ?_
  refine lv_iconst (v := nI 3) hx hb d_M_init_64 (by decide) ?_
  refine z_newa (atype := .int) (ty := .int) C hL hA 1 rfl k_ac_int rfl rfl (by omega) (by decide) (by decide) d_M_init_65 (fun q8 H hL => ?_)
  refine z_put C hL i_M t_M t_M_ok n_M 0 rfl (ci := 5) rfl 15 (by decide) k_fl_M_35 rfl hnm rfl rfl (Nat.le_of_ble_eq_true rfl) d_M_init_67 (fun H locs hL => ?_)
  replace hL : LW D (AC a N0) s [(a, .inr (5, [.int 0, .int 0, .ref q1, .ref q2, .ref q3, .ref q4, .ref q5, .int 0, .int (-1), .int 0, .int 0, .int 0, .int 0, .ref q6, .ref q7, .ref q8])), (q1, mZ cs 48), (q2, mZ cs 48), (q3, mZ cs 48), (q4, mZ cs 48), (q5, mZ cs 12), (q6, mZ cs 3), (q7, mZ cs 3), (q8, mZ cs 3)] H locs := hL
  refine lv_aload_n hx hb d_M_init_70 rfl (lv_at hl 0 rfl) ?_
  refine W_to (F0 m 88 ls [.int (nI (nbOf xa)), .ref a]) (fun J => ?_) ?_
  · refine lv_iload_n hx hb d_M_init_71 rfl (lv_at hl 1 rfl) ?_
    refine lv_iconst (v := nI 5) hx hb d_M_init_72 (by decide) ?_
    refine lv_icmp_lt (tgt := 82) hx hb d_M_init_73 (by decide) (fun k1 => ?_) (fun k1 => ?_)
    · refine lv_bipush (v := nI 8) hx hb d_M_init_82 (by decide) ?_
      refine lv_goto (tgt := 88) hx hb d_M_init_84 (by decide) ?_
      exact top_i (clp_lo k1) J
    · refine lv_iload_n hx hb d_M_init_76 rfl (lv_at hl 1 rfl) ?_
      refine lv_bipush (v := nI 12) hx hb d_M_init_77 (by decide) ?_
      refine lv_icmp_le (tgt := 87) hx hb d_M_init_79 (by decide) (fun k2 => ?_) (fun k2 => ?_)
      · refine lv_iload_n hx hb d_M_init_87 rfl (lv_at hl 1 rfl) ?_
        exact top_i (clp_in (by omega) (by omega) k1 k2) J
      · refine lv_bipush (v := nI 8) hx hb d_M_init_82 (by decide) ?_
        refine lv_goto (tgt := 88) hx hb d_M_init_84 (by decide) ?_
        exact top_i (clp_hi k2) J
  refine z_put C hL i_M t_M t_M_ok n_M 0 rfl (ci := 5) rfl 0 (by decide) k_fl_M_38 rfl hnm rfl rfl (Nat.le_of_ble_eq_true rfl) d_M_init_88 (fun H locs hL => ?_)
  replace hL : LW D (AC a N0) s [(a, .inr (5, [.int (nI (nbOf xa)), .int 0, .ref q1, .ref q2, .ref q3, .ref q4, .ref q5, .int 0, .int (-1), .int 0, .int 0, .int 0, .int 0, .ref q6, .ref q7, .ref q8])), (q1, mZ cs 48), (q2, mZ cs 48), (q3, mZ cs 48), (q4, mZ cs 48), (q5, mZ cs 12), (q6, mZ cs 3), (q7, mZ cs 3), (q8, mZ cs 3)] H locs := hL
  refine lv_aload_n hx hb d_M_init_91 rfl (lv_at hl 0 rfl) ?_
  refine W_to (F0 m 108 ls [.int (nI (spOf xb)), .ref a]) (fun J => ?_) ?_
  · refine lv_iload_n hx hb d_M_init_92 rfl (lv_at hl 2 rfl) ?_
    refine lv_iconst (v := nI 1) hx hb d_M_init_93 (by decide) ?_
    refine lv_icmp_lt (tgt := 103) hx hb d_M_init_94 (by decide) (fun k1 => ?_) (fun k1 => ?_)
    · refine lv_iconst (v := nI 4) hx hb d_M_init_103 (by decide) ?_
      refine lv_goto (tgt := 108) hx hb d_M_init_104 (by decide) ?_
      exact top_i (clp_lo k1) J
    · refine lv_iload_n hx hb d_M_init_97 rfl (lv_at hl 2 rfl) ?_
      refine lv_bipush (v := nI 50) hx hb d_M_init_98 (by decide) ?_
      refine lv_icmp_le (tgt := 107) hx hb d_M_init_100 (by decide) (fun k2 => ?_) (fun k2 => ?_)
      · refine lv_iload_n hx hb d_M_init_107 rfl (lv_at hl 2 rfl) ?_
        exact top_i (clp_in (by omega) (by omega) k1 k2) J
      · refine lv_iconst (v := nI 4) hx hb d_M_init_103 (by decide) ?_
        refine lv_goto (tgt := 108) hx hb d_M_init_104 (by decide) ?_
        exact top_i (clp_hi k2) J
  refine z_put C hL i_M t_M t_M_ok n_M 0 rfl (ci := 5) rfl 1 (by decide) k_fl_M_41 rfl hnm rfl rfl (Nat.le_of_ble_eq_true rfl) d_M_init_108 (fun H locs hL => ?_)
  replace hL : LW D (AC a N0) s [(a, .inr (5, [.int (nI (nbOf xa)), .int (nI (spOf xb)), .ref q1, .ref q2, .ref q3, .ref q4, .ref q5, .int 0, .int (-1), .int 0, .int 0, .int 0, .int 0, .ref q6, .ref q7, .ref q8])), (q1, mZ cs 48), (q2, mZ cs 48), (q3, mZ cs 48), (q4, mZ cs 48), (q5, mZ cs 12), (q6, mZ cs 3), (q7, mZ cs 3), (q8, mZ cs 3)] H locs := hL
  refine lv_iconst (v := nI 0) hx hb d_M_init_111 (by decide) ?_
  refine lv_istore_n (lv' := [(3, _), (0, _), (1, _), (2, _)]) hx hb d_M_init_112 rfl hl (by decide) rfl (fun ls hl => ?_)
  have hL2 : LW D (AC a N0) s (mL cs (nbOf xa) (spOf xb) a q1 q2 q3 q4 q5 q6 q7 q8 (fun _ => 0)) H locs := hL
  refine W_while (σ := Nat × (Nat → Int32)) (fun x => 48 - x.1) (fun x H locs ls => x.1 ≤ 48 ∧ (∀ p, p < x.1 → x.2 p = -1) ∧ LW D (AC a N0) s (mL cs (nbOf xa) (spOf xb) a q1 q2 q3 q4 q5 q6 q7 q8 x.2) H locs ∧ lv_has ls 4 [(3, .int (nI x.1)), (0, .ref a)]) ?_ (0, fun _ => 0) ⟨Nat.zero_le _, fun p h => absurd h (Nat.not_lt_zero _), hL2, lv_sub hl [0, 1] rfl⟩
  rintro ⟨i, f⟩ H locs ls ⟨hi, hf, hL, hl⟩ ih
  dsimp only at hi hf hL hl
  refine lv_iload_n hx hb d_M_init_113 rfl (lv_at hl 0 rfl) ?_
  refine lv_bipush (v := nI 48) hx hb d_M_init_114 (by decide) ?_
  refine bn_ge (tgt := 132) C (by omega) (by omega) d_M_init_116 (by decide) (fun k1 => ?_) (fun k1 => ?_)
  · have hi2 : i = 48 := by omega
    subst hi2
    have hnb := nbOf_ok xa
    refine rt_new C hL hr hlk ((fun j => [a, q1, q2, q3, q4, q5, q6, q7, q8].getD j 0), (fun k => [nI (nbOf xa), nI (spOf xb), 0, 0, 0, 0, 0, 0, -1, 0, 0, 0, 0].getD k 0, fun k => if k = 0 then f else fun _ => 0)) ⟨rfl, hL.2.1, rfl, rfl, rfl, rfl, rfl, rfl, rfl, fun p hp => ?_, fun p hp h => ?_, fun b hb => rfl, (fun k e h => by cases h)⟩ (fun t ht => by rw [ht]; exact hL.1) (by decide) (by decide) d_M_init_132
    · rw [prg_F0]
      exact hf p (by omega)
    · rw [prg_F0] at h; cases h
  · refine lv_aload_n hx hb d_M_init_119 rfl (lv_at hl 1 rfl) ?_
    refine z_get C hL i_M 0 rfl (ci := 5) rfl 2 (by decide) k_fl_M_7 rfl rfl d_M_init_120 ?_
    refine lv_iload_n hx hb d_M_init_123 rfl (lv_at hl 0 rfl) ?_
    refine lv_iconst (v := -1) hx hb d_M_init_124 (by decide) ?_
    refine z_iast C hL 1 rfl (by omega) (by omega) d_M_init_125 (fun H locs hL => ?_)
    refine lv_iinc (lv' := [(3, _), (0, _)]) hx hb d_M_init_126 hl (k := 0) rfl (nI_inc _) (by decide) rfl (fun ls hl => ?_)
    refine lv_goto (tgt := 113) hx hb d_M_init_129 (by decide) ?_
    refine ih (i + 1, va_up f i (-1)) _ _ _ (by show 48 - (i + 1) < 48 - i; omega) ⟨by show i + 1 ≤ 48; omega, fun q hq => ?_, hL, hl⟩
    show va_up f i (-1) q = -1
    by_cases z : q = i
    · subst z; rw [va_up_self]
    · rw [va_up_ne _ _ z]; exact hf q (by have : q < i + 1 := hq; omega)
end CM
end
section
/-! THE CLASS's constructor: its world while it grows -/
def cat {α : Type} (f : Nat → α) (n : Nat) (g : Nat → α) : Nat → α := fun j => if j < n then f j else g (j - n)
theorem cat_l {α : Type} (f g : Nat → α) {n j : Nat} (h : j < n) : cat f n g j = f j := by simp [cat, h]
theorem cat_r {α : Type} (f g : Nat → α) {n j : Nat} (h : ¬ j < n) : cat f n g j = g (j - n) := by simp [cat, h]
theorem wX_app (ad u : Nat → Nat) (n k : Nat) (E G : Nat → va_E) : wX ad n E ++ wX u k G = wX (cat ad n u) (n + k) (cat E n G) := by
  apply List.ext_getElem?
  intro i
  have hlen : (wX ad n E).length = n := by simp [wX]
  by_cases h : i < n
  · rw [List.getElem?_append_left (by omega), wX_at h, wX_at (by omega), cat_l _ _ h, cat_l _ _ h]
  · rw [List.getElem?_append_right (by omega), hlen]
    by_cases h2 : i - n < k
    · rw [wX_at h2, wX_at (by omega), cat_r _ _ h, cat_r _ _ h]
    · rw [List.getElem?_eq_none (by simp [wX]; omega), List.getElem?_eq_none (by simp [wX]; omega)]
theorem D_geo {A : Nat → Prop} {ad : Nat → Nat} {n : Nat} {E : Nat → va_E} (h : va_D A (wX ad n E)) : Geo ad n ∧ ∀ j, j < n → A (ad j) :=
  ⟨fun i j hi hj e => h.1 i j _ _ (wX_at hi) (wX_at hj) e, fun j hj => h.2 j _ (wX_at hj)⟩
theorem D_of {A : Nat → Prop} {ad : Nat → Nat} {n : Nat} {E : Nat → va_E} (h1 : Geo ad n) (h2 : ∀ j, j < n → A (ad j)) : va_D A (wX ad n E) := by
  refine ⟨fun i j p q hi hj e => ?_, fun k q hk => ?_⟩
  · obtain ⟨a1, rfl⟩ := wX_of hi
    obtain ⟨a2, rfl⟩ := wX_of hj
    exact h1 i j a1 a2 e
  · obtain ⟨a1, rfl⟩ := wX_of hk
    exact h2 k a1
theorem q_congr {cA : ClassId} {N : Nat} {f g : Nat → Option Nat} (h : ∀ i, i < N → f i = g i) : vp_cell cA (N, .inr (.inr (.inr (.inr f)))) = vp_cell cA (N, .inr (.inr (.inr (.inr g)))) := by
  rw [vp_cell_q, vp_cell_q]
  have : (fun j : Fin N => va_rf (f j.val)) = fun j : Fin N => va_rf (g j.val) := funext fun j => by rw [h j.val j.isLt]
  unfold arrV
  rw [this]
section ZJ
variable {s : State} {H H1 : Heap} {locs locs1 : List Loc} {D : va_G} {A : Nat → Prop}
theorem z_join {wr w1 : va_W} {q : Nat} {x : va_E} (hL : LW D A s (wr ++ [(q, x)]) H locs) (hk : ∀ r : Nat, r < H.size → ¬ AC q H.size r → H1[r]? = H[r]?) (hF : ∀ r, AC q H.size r → A r) (hP1 : va_P D classes w1 H1) (hD1 : va_D (AC q H.size) w1) (hS : va_S A s.heap H1 locs1) : LW D A s (wr ++ w1) H1 locs1 := by
  have hin : ∀ (k : Nat) (y : Nat × va_E), wr[k]? = some y → (wr ++ [(q, x)])[k]? = some y := fun k y hy => by
    rw [List.getElem?_append_left (List.getElem?_eq_some_iff.mp hy).1]; exact hy
  have hapart : ∀ (k : Nat) (y : Nat × va_E), wr[k]? = some y → y.1 < H.size ∧ ¬ AC q H.size y.1 := fun k y hy => by
    have h1 := (hL.1 k y (hin k y hy)).lt
    refine ⟨h1, fun z => ?_⟩
    rcases z with z | z
    · have hkl := (List.getElem?_eq_some_iff.mp hy).1
      have := hL.2.1.1 k wr.length y (q, x) (hin k y hy) (by rw [List.getElem?_append_right (Nat.le_refl _)]; simp) z
      omega
    · omega
  refine ⟨va_P.app (fun k y hy => ?_) hP1, va_D.app ⟨fun i j y z hi hj e => hL.2.1.1 i j y z (hin i y hi) (hin j z hj) e, fun k y hy => hL.2.1.2 k y (hin k y hy)⟩ (hD1.weaken (fun k y _ h => hF y.1 h)) (fun i j y z hi hj e => ?_), hS⟩
  · obtain ⟨g1, g2⟩ := hapart k y hy
    exact (hL.1 k y (hin k y hy)).kept (hk y.1 g1 g2)
  · exact (hapart i y hi).2 (by rw [e]; exact hD1.2 j z hj)
theorem LW.congr {ad : Nat → Nat} {n : Nat} {E E' : Nat → va_E} (h : LW D A s (wX ad n E) H locs) (he : ∀ j, j < n → E j = E' j) : LW D A s (wX ad n E') H locs := by rw [← wX_congr he]; exact h
end ZJ
/-- the blocks made so far -/
def pf (ad : Nat → Nat) (b : Nat) : Nat → Option Nat := fun i => if i < b then some (ad (5 * i + 10)) else none
def bfU (ad : Nat → Nat) : Nat → Option Nat := va_up (va_up (va_up (fun _ => none) 0 (some (ad 7))) 1 (some (ad 8))) 2 (some (ad 9))
def SI (ad : Nat → Nat) (sp b : Nat) (hs : Int32) (pl : Nat → Int32) : SW := (fun k => [nI sp, 0, 0, 0, 0, 0, 0, 0, hs].getD k 0, none, fun _ _ => 0, fun _ _ _ => 0, pl, pf ad b, bfU ad, fun _ _ => 0)
def eI (ad : Nat → Nat) (cs : Nat → ClassId) (nb sp b : Nat) (hs : Int32) (pl : Nat → Int32) : Nat → va_E := va_up (eC ad cs nb (SI ad sp b hs pl)) 1 (.inl (cs 3, nb, .inr (.inr (.inr (.inr (pf ad b))))))
theorem pf_up (ad : Nat → Nat) (b : Nat) : va_up (pf ad b) b (some (ad (5 * b + 10))) = pf ad (b + 1) := by
  funext i
  by_cases h : i = b
  · subst h; rw [va_up_self]; simp [pf]
  · rw [va_up_ne _ _ h]
    unfold pf
    by_cases h2 : i < b
    · rw [if_pos h2, if_pos (by omega)]
    · rw [if_neg h2, if_neg (by omega)]
theorem pf_cat {ad u : Nat → Nat} {b : Nat} : pf (cat ad (5 * b + 10) u) b = pf ad b := by
  funext i
  unfold pf
  by_cases h2 : i < b
  · rw [if_pos h2, if_pos h2, cat_l _ _ (by omega)]
  · rw [if_neg h2, if_neg h2]
theorem bfU_cat {ad u : Nat → Nat} {n : Nat} (hn : 10 ≤ n) : bfU (cat ad n u) = bfU ad := by
  unfold bfU
  rw [cat_l _ _ (by omega), cat_l _ _ (by omega), cat_l _ _ (by omega)]
theorem eI_cat {ad u : Nat → Nat} {cs : Nat → ClassId} {nb sp b : Nat} {hs : Int32} {pl : Nat → Int32} : ∀ j, j < 5 * (b + 1) + 10 → cat (eI ad cs nb sp b hs pl) (5 * b + 10) (bE u cs b) j = eI (cat ad (5 * b + 10) u) cs nb sp b hs pl j := by
  have hS : SI (cat ad (5 * b + 10) u) sp b hs pl = SI ad sp b hs pl := by
    unfold SI
    rw [pf_cat, bfU_cat (by omega)]
  have hc : ∀ k, k < 10 → cat ad (5 * b + 10) u k = ad k := fun k hk => cat_l _ _ (by omega)
  unfold eI
  rw [hS, pf_cat]
  refine eC_cases (b + 1) ?_ ?_ ?_ ?_ ?_ ?_ ?_ ?_ ?_
  · rw [cat_l _ _ (by omega), va_up_ne _ _ (by omega), va_up_ne _ _ (by omega)]
    show (Sum.inr (4, mainW ad _) : va_E) = .inr (4, mainW _ _)
    unfold mainW
    rw [hc 1 (by omega), hc 2 (by omega), hc 3 (by omega), hc 4 (by omega), hc 5 (by omega), hc 6 (by omega)]
  · rw [cat_l _ _ (by omega), va_up_self, va_up_self]
  · rw [cat_l _ _ (by omega), va_up_ne _ _ (by omega), va_up_ne _ _ (by omega)]; rfl
  · rw [cat_l _ _ (by omega), va_up_ne _ _ (by omega), va_up_ne _ _ (by omega)]; rfl
  · rw [cat_l _ _ (by omega), va_up_ne _ _ (by omega), va_up_ne _ _ (by omega)]; rfl
  · rw [cat_l _ _ (by omega), va_up_ne _ _ (by omega), va_up_ne _ _ (by omega)]; rfl
  · rw [cat_l _ _ (by omega), va_up_ne _ _ (by omega), va_up_ne _ _ (by omega)]; rfl
  · intro j hj
    rw [cat_l _ _ (by omega), va_up_ne _ _ (by omega), va_up_ne _ _ (by omega), eC_e j hj, eC_e j hj]
  · intro b' r hb' hr
    rw [va_up_ne _ _ (by omega), eC_b b' r hr]
    by_cases hlt : b' < b
    · rw [cat_l _ _ (by omega), va_up_ne _ _ (by omega), eC_b b' r hr]
      rcases (show r = 0 ∨ r = 1 ∨ r = 2 ∨ r = 3 ∨ r = 4 by omega) with rfl | rfl | rfl | rfl | rfl
      · show (Sum.inr (0, blkW ad _ _) : va_E) = .inr (0, blkW _ _ _)
        unfold blkW
        rw [cat_l _ _ (by omega), cat_l _ _ (by omega), cat_l _ _ (by omega), cat_l _ _ (by omega)]
      · rfl
      · rfl
      · rfl
      · rfl
    · have hbb : b' = b := by omega
      subst hbb
      rw [cat_r _ _ (by omega), show 5 * b' + (10 + r) - (5 * b' + 10) = r by omega]
      rcases (show r = 0 ∨ r = 1 ∨ r = 2 ∨ r = 3 ∨ r = 4 by omega) with rfl | rfl | rfl | rfl | rfl
      · show (Sum.inr (0, _) : va_E) = .inr (0, blkW _ _ _)
        unfold blkW
        rw [cat_r _ _ (by omega), cat_r _ _ (by omega), cat_r _ _ (by omega), cat_r _ _ (by omega), show 5 * b' + 11 - (5 * b' + 10) = 1 by omega, show 5 * b' + 12 - (5 * b' + 10) = 2 by omega, show 5 * b' + 13 - (5 * b' + 10) = 3 by omega, show 5 * b' + 14 - (5 * b' + 10) = 4 by omega]
        rfl
      · rfl
      · rfl
      · rfl
      · rfl
/-- states that differ in the main cell, the places and the heap alone -/
theorem eI_next {ad : Nat → Nat} {cs : Nat → ClassId} {nb sp b : Nat} {hs : Int32} {pl : Nat → Int32} (N : Nat) : ∀ j, j < 5 * N + 10 → va_up (va_up (eI ad cs nb sp b hs pl) 1 (.inl (cs 3, nb, .inr (.inr (.inr (.inr (pf ad (b + 1)))))))) 3 (.inl (cs 3, nb, .inr (.inr (.inr (.inr (pf ad (b + 1))))))) j = eI ad cs nb sp (b + 1) hs pl j := by
  unfold eI
  refine eC_cases N rfl rfl rfl rfl rfl rfl rfl ?_ ?_
  · intro j hj
    rw [va_up_ne _ _ (by omega), va_up_ne _ _ (by omega), va_up_ne _ _ (by omega), va_up_ne _ _ (by omega), eC_e j hj, eC_e j hj]; rfl
  · intro b' r hb' hr
    rw [va_up_ne _ _ (by omega), va_up_ne _ _ (by omega), va_up_ne _ _ (by omega), va_up_ne _ _ (by omega), eC_b b' r hr, eC_b b' r hr]; rfl
theorem eI_hs {ad : Nat → Nat} {cs : Nat → ClassId} {nb sp b : Nat} {hs : Int32} {pl : Nat → Int32} (N : Nat) (h2 : Int32) : ∀ j, j < 5 * N + 10 → va_up (eI ad cs nb sp b hs pl) 0 (.inr (4, (mainW ad (SI ad sp b hs pl)).set 8 (.int h2))) j = eI ad cs nb sp b h2 pl j := by
  unfold eI
  refine eC_cases N rfl rfl rfl rfl rfl rfl rfl ?_ ?_
  · intro j hj
    rw [va_up_ne _ _ (by omega), va_up_ne _ _ (by omega), va_up_ne _ _ (by omega), eC_e j hj, eC_e j hj]; rfl
  · intro b' r hb' hr
    rw [va_up_ne _ _ (by omega), va_up_ne _ _ (by omega), va_up_ne _ _ (by omega), eC_b b' r hr, eC_b b' r hr]; rfl
theorem eI_pl {ad : Nat → Nat} {cs : Nat → ClassId} {nb sp b : Nat} {hs : Int32} {pl : Nat → Int32} (N : Nat) (p2 : Nat → Int32) : ∀ j, j < 5 * N + 10 → va_up (eI ad cs nb sp b hs pl) 2 (.inl (cs 0, 4 * (nb - 3), .inl p2)) j = eI ad cs nb sp b hs p2 j := by
  unfold eI
  refine eC_cases N rfl rfl rfl rfl rfl rfl rfl ?_ ?_
  · intro j hj
    rw [va_up_ne _ _ (by omega), va_up_ne _ _ (by omega), va_up_ne _ _ (by omega), eC_e j hj, eC_e j hj]; rfl
  · intro b' r hb' hr
    rw [va_up_ne _ _ (by omega), va_up_ne _ _ (by omega), va_up_ne _ _ (by omega), eC_b b' r hr, eC_b b' r hr]; rfl
/-- the world at the end -/
theorem eI_end {D : va_G} {ad : Nat → Nat} {cs : Nat → ClassId} {nb sp : Nat} {hs : Int32} {pl : Nat → Int32} {H : Heap} (h : va_P D classes (wX ad (5 * nb + 10) (eI ad cs nb sp nb hs pl)) H) : va_P D classes (wX ad (5 * nb + 10) (eC ad cs nb (SI ad sp nb hs pl))) H := by
  intro k q hq
  obtain ⟨hk, rfl⟩ := wX_of hq
  have h1 := h k _ (wX_at hk)
  by_cases z : k = 1
  · subst z
    have h2 : H[ad 1]? = some (vp_cell (cs 3) (nb, .inr (.inr (.inr (.inr (pf ad nb)))))) := h1
    show H[ad 1]? = some (vp_cell (cs 3) (nb, .inr (.inr (.inr (.inr (fun i => some (ad (5 * i + 10))))))))
    rw [h2, q_congr (g := fun i => some (ad (5 * i + 10))) (fun i hi => by unfold pf; rw [if_pos hi])]
  · unfold eI at h1
    rw [va_up_ne _ _ z] at h1
    exact h1
theorem fNew_F0 (nb q : Nat) : fNew nb F0l q = none := fNew_none.mpr fun i _ h => by rw [prg_F0] at h; cases h
theorem fVin_F0 (nb b : Nat) : fVin nb F0l b = 0 := by
  unfold fVin
  rw [cnt_congr (g := fun _ => false) (fun q _ => by unfold vld; rw [prg_F0]; rfl)]
  exact cnt_false 4
theorem RC_new {ad : Nat → Nat} {nb sp : Nat} {pl : Nat → Int32} (hp : ∀ q, q < 4 * (nb - 3) → pl q = -1) : RC ad (fun i => i) nb sp F0l (SI ad sp nb (nI nb) pl) := by
  refine ⟨⟨rfl, rfl, rfl, rfl, rfl, rfl, fun b hb => ⟨rfl, rfl, ?_⟩, fun b q hb hq => absurd hq (Nat.not_lt_zero _), fun q hq => ?_, fun i hi => ⟨hi, ?_⟩, fun i j _ _ h => h, fun k e h => (by cases h)⟩, nb, fun i => i, rfl, ⟨Nat.le_refl _, fun i hi => ⟨hi, ?_⟩, fun i j _ _ h => h, fun i h1 h2 => ?_⟩, fun b => ⟨fun h => ⟨b, h.1, rfl⟩, fun ⟨i, hi, e⟩ => ?_⟩⟩
  · rw [fVin_F0]; rfl
  · rw [fNew_F0]; exact hp q hq
  · rcases (show i = 0 ∨ i = 1 ∨ i = 2 by omega) with rfl | rfl | rfl <;> rfl
  · show pf ad nb i = _
    unfold pf
    rw [if_pos hi]
  · show 0 * 16 + (i - 1) / 2 ≤ 0 * 16 + i
    omega
  · subst e
    exact ⟨hi, rfl, fun z => by cases z⟩
end
section
/-! THE CLASS's constructor: the walk -/
section CW
variable {l : Launch} {D : va_G} {cs : Nat → ClassId}
theorem va_up_up {α : Type} (f : Nat → α) (k : Nat) (x y : α) : va_up (va_up f k x) k y = va_up f k y := by
  funext j
  by_cases h : j = k
  · subst h; rw [va_up_self, va_up_self]
  · rw [va_up_ne _ _ h, va_up_ne _ _ h, va_up_ne _ _ h]
theorem c_W_init (a N0 : Nat) (xa xb : Int32) : MC l D cs y_W_init b_W_init 5 none 3 69 360 [.ref a, .int xa, .int xb] (fun H => va_P D classes [(a, .inr (4, z_W))] H ∧ H.size = N0) (va_Qv (S := (Nat → Nat) × SW) (fun u => u.1 0 = a ∧ va_D (AC a N0) (wX u.1 (5 * nbOf xa + 10) (eC u.1 cs (nbOf xa) u.2)) ∧ RC u.1 (fun i => i) (nbOf xa) (spOf xb) F0l u.2) (fun u t => va_P D classes (wX u.1 (5 * nbOf xa + 10) (eC u.1 cs (nbOf xa) u.2)) t.heap) (AC a N0)) (AC a N0) := by
  refine MC.intro (by decide) (Nat.le_of_ble_eq_true rfl) ?_
  intro p e s m below meth c C hr hlk hnm hH ls hl
  have hx := C.1.1
  have hb := C.1.2.1
  have hA : ∀ q, s.heap.size ≤ q → AC a N0 q := fun q h => Or.inr (by rw [← hH.2]; exact h)
  have hL : LW D (AC a N0) s [(a, .inr (4, z_W))] s.heap [] := ⟨hH.1, D_one (Or.inl rfl), va_S.rf⟩
  refine lv_aload_n hx hb d_W_init_0 rfl (lv_at hl 0 rfl) ?_
  refine z_obj C hl.1 k_ml_W_1 (by decide) (by decide) (Nat.le_of_ble_eq_true rfl) d_W_init_1 ?_
  refine lv_aload_n hx hb d_W_init_4 rfl (lv_at hl 0 rfl) ?_
  refine lv_iconst (v := nI 3) hx hb d_W_init_5 (by decide) ?_
  refine z_newq C hL hA 4 k_cl_W_7 C.2.1.2.2.2.1 rfl (by omega) (by decide) d_W_init_6 (fun q1 H hL => ?_)
  refine lv_dup hx hb d_W_init_9 rfl ?_
  refine lv_iconst (v := nI 0) hx hb d_W_init_10 (by decide) ?_
  refine z_new C hL hA i_E t_E t_E_ok k_cl_W_7 k_ins_E k_ini_E (ci := 1) rfl z_E_ok (by decide) d_W_init_11 (fun e0 H hL => ?_)
  refine lv_dup hx hb d_W_init_14 rfl ?_
  refine z_cN C hL (c_E_init e0) yc_E_init rfl k_im_E_init k_mn_W_9 (by decide) hl.1 (Nat.le_of_ble_eq_true rfl) d_W_init_15 (by decide) (fun H locs hL => ?_)
  refine z_aast (t0 := 4) (r := (R_E, F_E, 3)) C hL 1 2 rfl rfl rfl rfl (by omega) (by omega) d_W_init_18 (fun H locs hL => ?_)
  replace hL : LW D (AC a N0) s [(a, .inr (4, [.int 0, .null, .null, .int 0, .int 0, .int 0, .null, .null, .int 0, .null, .int 0, .null, .null])), (q1, .inl (cs 4, 3, .inr (.inr (.inr (.inr (va_up (fun _ => none) 0 (some e0))))))), (e0, .inr (1, z_E))] H locs := hL
  refine lv_dup hx hb d_W_init_19 rfl ?_
  refine lv_iconst (v := nI 1) hx hb d_W_init_20 (by decide) ?_
  refine z_new C hL hA i_E t_E t_E_ok k_cl_W_7 k_ins_E k_ini_E (ci := 1) rfl z_E_ok (by decide) d_W_init_21 (fun e1 H hL => ?_)
  refine lv_dup hx hb d_W_init_24 rfl ?_
  refine z_cN C hL (c_E_init e1) yc_E_init rfl k_im_E_init k_mn_W_9 (by decide) hl.1 (Nat.le_of_ble_eq_true rfl) d_W_init_25 (by decide) (fun H locs hL => ?_)
  refine z_aast (t0 := 4) (r := (R_E, F_E, 3)) C hL 1 3 rfl rfl rfl rfl (by omega) (by omega) d_W_init_28 (fun H locs hL => ?_)
  replace hL : LW D (AC a N0) s [(a, .inr (4, [.int 0, .null, .null, .int 0, .int 0, .int 0, .null, .null, .int 0, .null, .int 0, .null, .null])), (q1, .inl (cs 4, 3, .inr (.inr (.inr (.inr (va_up (va_up (fun _ => none) 0 (some e0)) 1 (some e1))))))), (e0, .inr (1, z_E)), (e1, .inr (1, z_E))] H locs := hL
  refine lv_dup hx hb d_W_init_29 rfl ?_
  refine lv_iconst (v := nI 2) hx hb d_W_init_30 (by decide) ?_
  refine z_new C hL hA i_E t_E t_E_ok k_cl_W_7 k_ins_E k_ini_E (ci := 1) rfl z_E_ok (by decide) d_W_init_31 (fun e2 H hL => ?_)
  refine lv_dup hx hb d_W_init_34 rfl ?_
  refine z_cN C hL (c_E_init e2) yc_E_init rfl k_im_E_init k_mn_W_9 (by decide) hl.1 (Nat.le_of_ble_eq_true rfl) d_W_init_35 (by decide) (fun H locs hL => ?_)
  refine z_aast (t0 := 4) (r := (R_E, F_E, 3)) C hL 1 4 rfl rfl rfl rfl (by omega) (by omega) d_W_init_38 (fun H locs hL => ?_)
  replace hL : LW D (AC a N0) s [(a, .inr (4, [.int 0, .null, .null, .int 0, .int 0, .int 0, .null, .null, .int 0, .null, .int 0, .null, .null])), (q1, .inl (cs 4, 3, .inr (.inr (.inr (.inr (va_up (va_up (va_up (fun _ => none) 0 (some e0)) 1 (some e1)) 2 (some e2))))))), (e0, .inr (1, z_E)), (e1, .inr (1, z_E)), (e2, .inr (1, z_E))] H locs := hL
  refine z_put C hL i_W t_W t_W_ok n_W 0 rfl (ci := 4) rfl 9 (by decide) k_fl_W_10 rfl hnm rfl rfl (Nat.le_of_ble_eq_true rfl) d_W_init_39 (fun H locs hL => ?_)
  replace hL : LW D (AC a N0) s [(a, .inr (4, [.int 0, .null, .null, .int 0, .int 0, .int 0, .null, .null, .int 0, .ref q1, .int 0, .null, .null])), (q1, .inl (cs 4, 3, .inr (.inr (.inr (.inr (va_up (va_up (va_up (fun _ => none) 0 (some e0)) 1 (some e1)) 2 (some e2))))))), (e0, .inr (1, z_E)), (e1, .inr (1, z_E)), (e2, .inr (1, z_E))] H locs := hL
  refine lv_aload_n hx hb d_W_init_42 rfl (lv_at hl 0 rfl) ?_
  refine z_new C hL hA i_G t_G t_G_ok k_cl_W_16 k_ins_G k_ini_G (ci := 2) rfl z_G_ok (by decide) d_W_init_43 (fun g1 H hL => ?_)
  refine lv_dup hx hb d_W_init_46 rfl ?_
  refine z_cN C hL (c_G_init g1) yc_G_init rfl k_im_G_init k_mn_W_18 (by decide) hl.1 (Nat.le_of_ble_eq_true rfl) d_W_init_47 (by decide) (fun H locs hL => ?_)
  refine z_put C hL i_W t_W t_W_ok n_W 0 rfl (ci := 4) rfl 11 (by decide) k_fl_W_19 rfl hnm rfl rfl (Nat.le_of_ble_eq_true rfl) d_W_init_50 (fun H locs hL => ?_)
  replace hL : LW D (AC a N0) s [(a, .inr (4, [.int 0, .null, .null, .int 0, .int 0, .int 0, .null, .null, .int 0, .ref q1, .int 0, .ref g1, .null])), (q1, .inl (cs 4, 3, .inr (.inr (.inr (.inr (va_up (va_up (va_up (fun _ => none) 0 (some e0)) 1 (some e1)) 2 (some e2))))))), (e0, .inr (1, z_E)), (e1, .inr (1, z_E)), (e2, .inr (1, z_E)), (g1, .inr (2, []))] H locs := hL
  refine lv_aload_n hx hb d_W_init_53 rfl (lv_at hl 0 rfl) ?_
  refine z_new C hL hA i_V t_V t_V_ok k_cl_W_23 k_ins_V k_ini_V (ci := 3) rfl z_V_ok (by decide) d_W_init_54 (fun v1 H hL => ?_)
  refine lv_dup hx hb d_W_init_57 rfl ?_
  refine z_cN C hL (c_V_init v1) yc_V_init rfl k_im_V_init k_mn_W_25 (by decide) hl.1 (Nat.le_of_ble_eq_true rfl) d_W_init_58 (by decide) (fun H locs hL => ?_)
  refine z_put C hL i_W t_W t_W_ok n_W 0 rfl (ci := 4) rfl 12 (by decide) k_fl_W_26 rfl hnm rfl rfl (Nat.le_of_ble_eq_true rfl) d_W_init_61 (fun H locs hL => ?_)
  replace hL : LW D (AC a N0) s [(a, .inr (4, [.int 0, .null, .null, .int 0, .int 0, .int 0, .null, .null, .int 0, .ref q1, .int 0, .ref g1, .ref v1])), (q1, .inl (cs 4, 3, .inr (.inr (.inr (.inr (va_up (va_up (va_up (fun _ => none) 0 (some e0)) 1 (some e1)) 2 (some e2))))))), (e0, .inr (1, z_E)), (e1, .inr (1, z_E)), (e2, .inr (1, z_E)), (g1, .inr (2, [])), (v1, .inr (3, []))] H locs := hL
  refine W_to (F0 m 81 ls [.int (nI (nbOf xa))]) (fun J => ?_) ?_
  · refine lv_iload_n hx hb d_W_init_64 rfl (lv_at hl 1 rfl) ?_
    refine lv_iconst (v := nI 5) hx hb d_W_init_65 (by decide) ?_
    refine lv_icmp_lt (tgt := 75) hx hb d_W_init_66 (by decide) (fun k1 => ?_) (fun k1 => ?_)
    · refine lv_bipush (v := nI 8) hx hb d_W_init_75 (by decide) ?_
      refine lv_goto (tgt := 81) hx hb d_W_init_77 (by decide) ?_
      exact top_i (clp_lo k1) J
    · refine lv_iload_n hx hb d_W_init_69 rfl (lv_at hl 1 rfl) ?_
      refine lv_bipush (v := nI 12) hx hb d_W_init_70 (by decide) ?_
      refine lv_icmp_le (tgt := 80) hx hb d_W_init_72 (by decide) (fun k2 => ?_) (fun k2 => ?_)
      · refine lv_iload_n hx hb d_W_init_80 rfl (lv_at hl 1 rfl) ?_
        exact top_i (clp_in (by omega) (by omega) k1 k2) J
      · refine lv_bipush (v := nI 8) hx hb d_W_init_75 (by decide) ?_
        refine lv_goto (tgt := 81) hx hb d_W_init_77 (by decide) ?_
        exact top_i (clp_hi k2) J
  refine lv_istore_n (lv' := [(3, _), (0, _), (1, _), (2, _)]) hx hb d_W_init_81 rfl hl (by decide) rfl (fun ls hl => ?_)
  refine lv_aload_n hx hb d_W_init_82 rfl (lv_at hl 1 rfl) ?_
  refine W_to (F0 m 99 ls [.int (nI (spOf xb)), .ref a]) (fun J => ?_) ?_
  · refine lv_iload_n hx hb d_W_init_83 rfl (lv_at hl 3 rfl) ?_
    refine lv_iconst (v := nI 1) hx hb d_W_init_84 (by decide) ?_
    refine lv_icmp_lt (tgt := 94) hx hb d_W_init_85 (by decide) (fun k1 => ?_) (fun k1 => ?_)
    · refine lv_iconst (v := nI 4) hx hb d_W_init_94 (by decide) ?_
      refine lv_goto (tgt := 99) hx hb d_W_init_95 (by decide) ?_
      exact top_i (clp_lo k1) J
    · refine lv_iload_n hx hb d_W_init_88 rfl (lv_at hl 3 rfl) ?_
      refine lv_bipush (v := nI 50) hx hb d_W_init_89 (by decide) ?_
      refine lv_icmp_le (tgt := 98) hx hb d_W_init_91 (by decide) (fun k2 => ?_) (fun k2 => ?_)
      · refine lv_iload_n hx hb d_W_init_98 rfl (lv_at hl 3 rfl) ?_
        exact top_i (clp_in (by omega) (by omega) k1 k2) J
      · refine lv_iconst (v := nI 4) hx hb d_W_init_94 (by decide) ?_
        refine lv_goto (tgt := 99) hx hb d_W_init_95 (by decide) ?_
        exact top_i (clp_hi k2) J
  have hnb := nbOf_ok xa
  generalize nbOf xa = nb at *
  generalize spOf xb = sp at *
  refine z_put C hL i_W t_W t_W_ok n_W 0 rfl (ci := 4) rfl 0 (by decide) k_fl_W_29 rfl hnm rfl rfl (Nat.le_of_ble_eq_true rfl) d_W_init_99 (fun H locs hL => ?_)
  replace hL : LW D (AC a N0) s [(a, .inr (4, [.int (nI sp), .null, .null, .int 0, .int 0, .int 0, .null, .null, .int 0, .ref q1, .int 0, .ref g1, .ref v1])), (q1, .inl (cs 4, 3, .inr (.inr (.inr (.inr (va_up (va_up (va_up (fun _ => none) 0 (some e0)) 1 (some e1)) 2 (some e2))))))), (e0, .inr (1, z_E)), (e1, .inr (1, z_E)), (e2, .inr (1, z_E)), (g1, .inr (2, [])), (v1, .inr (3, []))] H locs := hL
  refine lv_aload_n hx hb d_W_init_102 rfl (lv_at hl 1 rfl) ?_
  refine lv_iload_n hx hb d_W_init_103 rfl (lv_at hl 0 rfl) ?_
  refine z_newq C hL hA 3 k_cl_W_33 C.2.1.2.2.1 rfl (by omega) ⟨by decide, by show _ ≤ 360; omega⟩ d_W_init_104 (fun qb H hL => ?_)
  refine z_put C hL i_W t_W t_W_ok n_W 0 rfl (ci := 4) rfl 1 (by decide) k_fl_W_35 rfl hnm rfl rfl (Nat.le_of_ble_eq_true rfl) d_W_init_107 (fun H locs hL => ?_)
  replace hL : LW D (AC a N0) s [(a, .inr (4, [.int (nI sp), .ref qb, .null, .int 0, .int 0, .int 0, .null, .null, .int 0, .ref q1, .int 0, .ref g1, .ref v1])), (q1, .inl (cs 4, 3, .inr (.inr (.inr (.inr (va_up (va_up (va_up (fun _ => none) 0 (some e0)) 1 (some e1)) 2 (some e2))))))), (e0, .inr (1, z_E)), (e1, .inr (1, z_E)), (e2, .inr (1, z_E)), (g1, .inr (2, [])), (v1, .inr (3, [])), (qb, .inl (cs 3, nb, .inr (.inr (.inr (.inr (fun _ => none))))))] H locs := hL
  refine lv_aload_n hx hb d_W_init_110 rfl (lv_at hl 1 rfl) ?_
  refine lv_iload_n hx hb d_W_init_111 rfl (lv_at hl 0 rfl) ?_
  refine z_newq C hL hA 3 k_cl_W_33 C.2.1.2.2.1 rfl (by omega) ⟨by decide, by show _ ≤ 360; omega⟩ d_W_init_112 (fun qh H hL => ?_)
  refine z_put C hL i_W t_W t_W_ok n_W 0 rfl (ci := 4) rfl 7 (by decide) k_fl_W_39 rfl hnm rfl rfl (Nat.le_of_ble_eq_true rfl) d_W_init_115 (fun H locs hL => ?_)
  replace hL : LW D (AC a N0) s [(a, .inr (4, [.int (nI sp), .ref qb, .null, .int 0, .int 0, .int 0, .null, .ref qh, .int 0, .ref q1, .int 0, .ref g1, .ref v1])), (q1, .inl (cs 4, 3, .inr (.inr (.inr (.inr (va_up (va_up (va_up (fun _ => none) 0 (some e0)) 1 (some e1)) 2 (some e2))))))), (e0, .inr (1, z_E)), (e1, .inr (1, z_E)), (e2, .inr (1, z_E)), (g1, .inr (2, [])), (v1, .inr (3, [])), (qb, .inl (cs 3, nb, .inr (.inr (.inr (.inr (fun _ => none)))))), (qh, .inl (cs 3, nb, .inr (.inr (.inr (.inr (fun _ => none))))))] H locs := hL
  refine lv_aload_n hx hb d_W_init_118 rfl (lv_at hl 1 rfl) ?_
  refine lv_iconst (v := nI 4) hx hb d_W_init_119 (by decide) ?_
  refine lv_iload_n hx hb d_W_init_120 rfl (lv_at hl 0 rfl) ?_
  refine lv_iconst (v := nI 3) hx hb d_W_init_121 (by decide) ?_
  refine an_sub C (by omega) d_W_init_122 ?_
  refine an_mul C d_W_init_123 ?_
  refine z_newa (atype := .byte) (ty := .byte) C hL hA 0 rfl k_ac_byte rfl rfl (by omega) (by decide) ⟨by decide, by show _ ≤ 360; omega⟩ d_W_init_124 (fun qp H hL => ?_)
  refine z_put C hL i_W t_W t_W_ok n_W 0 rfl (ci := 4) rfl 2 (by decide) k_fl_W_42 rfl hnm rfl rfl (Nat.le_of_ble_eq_true rfl) d_W_init_126 (fun H locs hL => ?_)
  replace hL : LW D (AC a N0) s [(a, .inr (4, [.int (nI sp), .ref qb, .ref qp, .int 0, .int 0, .int 0, .null, .ref qh, .int 0, .ref q1, .int 0, .ref g1, .ref v1])), (q1, .inl (cs 4, 3, .inr (.inr (.inr (.inr (va_up (va_up (va_up (fun _ => none) 0 (some e0)) 1 (some e1)) 2 (some e2))))))), (e0, .inr (1, z_E)), (e1, .inr (1, z_E)), (e2, .inr (1, z_E)), (g1, .inr (2, [])), (v1, .inr (3, [])), (qb, .inl (cs 3, nb, .inr (.inr (.inr (.inr (fun _ => none)))))), (qh, .inl (cs 3, nb, .inr (.inr (.inr (.inr (fun _ => none)))))), (qp, .inl (cs 0, 4 * (nb - 3), .inl (fun _ => 0)))] H locs := hL
  refine lv_iconst (v := nI 0) hx hb d_W_init_129 (by decide) ?_
  refine lv_istore (lv' := [(4, _), (3, _), (0, _), (1, _), (2, _)]) hx hb d_W_init_130 hl (by decide) rfl (fun ls hl => ?_)
  have hL2 : LW D (AC a N0) s (wX (fun j => [a, qb, qp, qh, q1, g1, v1, e0, e1, e2].getD j 0) (5 * 0 + 10) (eI (fun j => [a, qb, qp, qh, q1, g1, v1, e0, e1, e2].getD j 0) cs nb sp 0 0 (fun _ => 0))) H locs := ⟨hL.1.sub [0, 7, 9, 8, 1, 5, 6, 2, 3, 4] rfl, hL.2.1.sub [0, 7, 9, 8, 1, 5, 6, 2, 3, 4] rfl rfl, hL.2.2⟩
  refine W.widen (k := 9 + 5 * 0) (n := 12 + 2 * nb + 4 * (nb - 3) + 24 * 0) (by omega) (by omega) ?_
  refine W_grow (σ := Nat × (Nat → Nat)) (fun x => nb - x.1) (fun x => 9 + 5 * x.1) (fun x => 12 + 2 * nb + 4 * (nb - 3) + 24 * x.1) (fun x H locs ls => x.1 ≤ nb ∧ x.2 0 = a ∧ LW D (AC a N0) s (wX x.2 (5 * x.1 + 10) (eI x.2 cs nb sp x.1 0 (fun _ => 0))) H locs ∧ lv_has ls 5 [(4, .int (nI x.1)), (3, .int (nI nb)), (0, .ref a)]) ?_ (0, fun j => [a, qb, qp, qh, q1, g1, v1, e0, e1, e2].getD j 0) ⟨Nat.zero_le _, rfl, hL2, lv_sub hl [0, 1, 2] rfl⟩
  clear hL hL2 hl
  rintro ⟨b, ad⟩ H locs ls ⟨hbn, h0, hL, hl⟩ ih
  dsimp only at hbn h0 hL hl ⊢
  refine lv_iload hx hb d_W_init_132 (lv_at hl 0 rfl) ?_
  refine lv_iload_n hx hb d_W_init_134 rfl (lv_at hl 1 rfl) ?_
  refine bn_ge (tgt := 174) C (by omega) (by omega) d_W_init_135 (by decide) (fun k1 => ?_) (fun k1 => ?_)
  · have hb2 : b = nb := by omega
    subst hb2
    refine lv_aload_n hx hb d_W_init_174 rfl (lv_at hl 2 rfl) ?_
    refine lv_iload_n hx hb d_W_init_175 rfl (lv_at hl 1 rfl) ?_
    have he0 : (wX ad (5 * b + 10) (eI ad cs b sp b 0 (fun _ => 0)))[0]? = some (a, .inr (4, mainW ad (SI ad sp b 0 (fun _ => 0)))) := by rw [wX_at (by omega), h0]; rfl
    refine z_put C hL i_W t_W t_W_ok n_W 0 he0 (ci := 4) rfl 8 (by decide) k_fl_W_49 rfl hnm rfl rfl (Nat.le_of_ble_eq_true rfl) d_W_init_176 (fun H locs hL => ?_)
    rw [show (a, (Sum.inr (4, (mainW ad (SI ad sp b 0 (fun _ => 0))).set 8 (.int (nI b))) : va_E)) = (ad 0, .inr (4, (mainW ad (SI ad sp b 0 (fun _ => 0))).set 8 (.int (nI b)))) by rw [h0], wX_set _ (by omega)] at hL
    replace hL := hL.congr (eI_hs b (nI b))
    refine lv_iconst (v := nI 0) hx hb d_W_init_179 (by decide) ?_
    refine lv_istore (lv' := [(4, _), (3, _), (0, _)]) hx hb d_W_init_180 hl (by decide) rfl (fun ls hl => ?_)
    refine W_while (σ := Nat × (Nat → Int32)) (fun x => 4 * (b - 3) - x.1) (fun x H locs ls => x.1 ≤ 4 * (b - 3) ∧ (∀ q, q < x.1 → x.2 q = -1) ∧ LW D (AC a N0) s (wX ad (5 * b + 10) (eI ad cs b sp b (nI b) x.2)) H locs ∧ lv_has ls 5 [(4, .int (nI x.1)), (0, .ref a)]) ?_ (0, fun _ => 0) ⟨Nat.zero_le _, fun p h => absurd h (Nat.not_lt_zero _), hL, lv_sub hl [0, 2] rfl⟩
    clear hL hl he0
    rintro ⟨i, f⟩ H locs ls ⟨hi, hf, hL, hl⟩ ih2
    dsimp only at hi hf hL hl
    have he0 : (wX ad (5 * b + 10) (eI ad cs b sp b (nI b) f))[0]? = some (a, .inr (4, mainW ad (SI ad sp b (nI b) f))) := by rw [wX_at (by omega), h0]; rfl
    have he2 : (wX ad (5 * b + 10) (eI ad cs b sp b (nI b) f))[2]? = some (ad 2, .inl (cs 0, 4 * (b - 3), .inl f)) := by rw [wX_at (by omega)]; rfl
    refine lv_iload hx hb d_W_init_182 (lv_at hl 0 rfl) ?_
    refine lv_aload_n hx hb d_W_init_184 rfl (lv_at hl 1 rfl) ?_
    refine z_get C hL i_W 0 he0 (ci := 4) rfl 2 (by decide) k_fl_W_42 rfl rfl d_W_init_185 ?_
    refine z_alen (t0 := 0) C hL 2 he2 rfl rfl d_W_init_188 ?_
    refine bn_ge (tgt := 206) C (by omega) (by omega) d_W_init_189 (by decide) (fun k2 => ?_) (fun k2 => ?_)
    · have hi2 : i = 4 * (b - 3) := by omega
      subst hi2
      exact rt_new C hL hr hlk (ad, SI ad sp b (nI b) f) ⟨h0, D_of (D_geo hL.2.1).1 (D_geo hL.2.1).2, RC_new hf⟩ (fun t ht => by rw [ht]; exact eI_end hL.1) (by omega) (by omega) d_W_init_206
    · refine lv_aload_n hx hb d_W_init_192 rfl (lv_at hl 1 rfl) ?_
      refine z_get C hL i_W 0 he0 (ci := 4) rfl 2 (by decide) k_fl_W_42 rfl rfl d_W_init_193 ?_
      refine lv_iload hx hb d_W_init_196 (lv_at hl 0 rfl) ?_
      refine lv_iconst (v := -1) hx hb d_W_init_198 (by decide) ?_
      refine z_bast (v := -1) C hL 2 he2 (by omega) (by omega) (by decide) d_W_init_199 (fun H locs hL => ?_)
      rw [wX_set _ (by omega)] at hL
      replace hL := hL.congr (eI_pl b _)
      refine lv_iinc (lv' := [(4, _), (0, _)]) hx hb d_W_init_200 hl (k := 0) rfl (nI_inc _) (by decide) rfl (fun ls hl => ?_)
      refine lv_goto (tgt := 182) hx hb d_W_init_203 (by decide) ?_
      refine ih2 (i + 1, va_up f i (-1)) _ _ _ (by show 4 * (b - 3) - (i + 1) < 4 * (b - 3) - i; omega) ⟨by show i + 1 ≤ 4 * (b - 3); omega, fun q hq => ?_, hL, hl⟩
      show va_up f i (-1) q = -1
      by_cases z : q = i
      · subst z; rw [va_up_self]
      · rw [va_up_ne _ _ z]; exact hf q (by have : q < i + 1 := hq; omega)
  · have he0 : (wX ad (5 * b + 10) (eI ad cs nb sp b 0 (fun _ => 0)))[0]? = some (a, .inr (4, mainW ad (SI ad sp b 0 (fun _ => 0)))) := by rw [wX_at (by omega), h0]; rfl
    refine lv_aload_n hx hb d_W_init_138 rfl (lv_at hl 2 rfl) ?_
    refine z_get C hL i_W 0 he0 (ci := 4) rfl 1 (by decide) k_fl_W_35 rfl rfl d_W_init_139 ?_
    refine lv_iload hx hb d_W_init_142 (lv_at hl 0 rfl) ?_
    refine z_new C hL hA i_B t_B t_B_ok k_cl_W_33 k_ins_B k_ini_B (ci := 0) rfl z_B_ok ⟨by show _ ≤ 69; omega, by show _ ≤ 360; omega⟩ d_W_init_144 (fun q H hL => ?_)
    refine lv_dup hx hb d_W_init_147 rfl ?_
    refine lv_iload hx hb d_W_init_148 (lv_at hl 0 rfl) ?_
    have hq0 : AC a N0 q := hL.2.1.2 (5 * b + 10) (q, .inr (0, z_B)) (by rw [List.getElem?_append_right (by simp [wX])]; simp [wX])
    have hN : N0 ≤ H.size := by rw [← hH.2]; exact hL.2.2.1
    have hF : ∀ r, AC q H.size r → AC a N0 r := fun r h => by
      rcases h with h | h
      · rw [h]; exact hq0
      · exact Or.inr (by omega)
    have hP0 : va_P D classes [(q, .inr (0, z_B))] H := fun k y hy => by
      have hk1 : k < 1 := (List.getElem?_eq_some_iff.mp hy).1
      rw [show k = 0 by omega] at hy
      cases hy
      exact hL.1 (5 * b + 10) (q, .inr (0, z_B)) (by rw [List.getElem?_append_right (by simp [wX])]; simp [wX])
    refine va_callv (run_I (As := [.int (nI b)]) C (c_B_init q b H.size) yc_B_init rfl k_im_B_init k_ml_W_46 (by decide) ⟨hP0, rfl⟩ rfl hl.1 rfl (Nat.le_of_ble_eq_true rfl) d_W_init_150 ⟨by show _ ≤ 69; omega, by show _ ≤ 360; omega⟩) hL.2.2 (fun r _ h => hF r h) hF (fun u t H1 locs1 ht _ hp hB hz hk hS => ?_)
    have hB' : va_P D classes (wX u 5 (bE u cs b)) H1 := by rw [← ht]; exact hB
    obtain ⟨ad', e0', e1', e3', eq', hL⟩ : ∃ ad' : Nat → Nat, ad' 0 = a ∧ ad' 1 = ad 1 ∧ ad' 3 = ad 3 ∧ ad' (5 * b + 10) = q ∧ LW D (AC a N0) s (wX ad' (5 * (b + 1) + 10) (eI ad' cs nb sp b 0 (fun _ => 0))) H1 locs1 := by
      have hJ := z_join hL hk hF hB' hp.2 hS
      rw [wX_app] at hJ
      exact ⟨cat ad (5 * b + 10) u, (cat_l _ _ (by omega)).trans h0, cat_l _ _ (by omega), cat_l _ _ (by omega), by rw [cat_r _ _ (by omega), Nat.sub_self]; exact hp.1, LW.congr (n := 5 * (b + 1) + 10) hJ eI_cat⟩
    rw [← eq', ← e1']
    clear hq0 hN hF hP0 hB' hB hk hz hS hp he0
    have he0 : (wX ad' (5 * (b + 1) + 10) (eI ad' cs nb sp b 0 (fun _ => 0)))[0]? = some (a, .inr (4, mainW ad' (SI ad' sp b 0 (fun _ => 0)))) := by rw [wX_at (by omega), e0']; rfl
    have he1 : (wX ad' (5 * (b + 1) + 10) (eI ad' cs nb sp b 0 (fun _ => 0)))[1]? = some (ad' 1, .inl (cs 3, nb, .inr (.inr (.inr (.inr (pf ad' b)))))) := by rw [wX_at (by omega)]; rfl
    have heb : (wX ad' (5 * (b + 1) + 10) (eI ad' cs nb sp b 0 (fun _ => 0)))[5 * b + 10]? = some (ad' (5 * b + 10), .inr (0, blkW ad' (SI ad' sp b 0 (fun _ => 0)) b)) := by
      rw [wX_at (by omega), eI, va_up_ne _ _ (by omega)]
      exact congrArg (fun z => some (ad' (5 * b + 10), z)) (eC_b b 0 (by omega))
    refine z_aast (t0 := 3) (r := (R_B, F_B, 8)) C hL 1 (5 * b + 10) he1 rfl heb rfl (by omega) (by omega) d_W_init_153 (fun H locs hL => ?_)
    rw [wX_set _ (by omega), pf_up] at hL
    clear he0 he1 heb
    have he0 : (wX ad' (5 * (b + 1) + 10) (va_up (eI ad' cs nb sp b 0 (fun _ => 0)) 1 (.inl (cs 3, nb, .inr (.inr (.inr (.inr (pf ad' (b + 1)))))))))[0]? = some (a, .inr (4, mainW ad' (SI ad' sp b 0 (fun _ => 0)))) := by rw [wX_at (by omega), e0']; rfl
    have he1 : (wX ad' (5 * (b + 1) + 10) (va_up (eI ad' cs nb sp b 0 (fun _ => 0)) 1 (.inl (cs 3, nb, .inr (.inr (.inr (.inr (pf ad' (b + 1)))))))))[1]? = some (ad' 1, .inl (cs 3, nb, .inr (.inr (.inr (.inr (pf ad' (b + 1))))))) := by rw [wX_at (by omega)]; rfl
    have he3 : (wX ad' (5 * (b + 1) + 10) (va_up (eI ad' cs nb sp b 0 (fun _ => 0)) 1 (.inl (cs 3, nb, .inr (.inr (.inr (.inr (pf ad' (b + 1)))))))))[3]? = some (ad' 3, .inl (cs 3, nb, .inr (.inr (.inr (.inr (pf ad' b)))))) := by rw [wX_at (by omega)]; rfl
    have heb : (wX ad' (5 * (b + 1) + 10) (va_up (eI ad' cs nb sp b 0 (fun _ => 0)) 1 (.inl (cs 3, nb, .inr (.inr (.inr (.inr (pf ad' (b + 1)))))))))[5 * b + 10]? = some (ad' (5 * b + 10), .inr (0, blkW ad' (SI ad' sp b 0 (fun _ => 0)) b)) := by
      rw [wX_at (by omega), va_up_ne _ _ (by omega), eI, va_up_ne _ _ (by omega)]
      exact congrArg (fun z => some (ad' (5 * b + 10), z)) (eC_b b 0 (by omega))
    refine lv_aload_n hx hb d_W_init_154 rfl (lv_at hl 2 rfl) ?_
    refine z_get C hL i_W 0 he0 (ci := 4) rfl 7 (by decide) k_fl_W_39 rfl rfl d_W_init_155 ?_
    refine lv_iload hx hb d_W_init_158 (lv_at hl 0 rfl) ?_
    refine lv_aload_n hx hb d_W_init_160 rfl (lv_at hl 2 rfl) ?_
    refine z_get C hL i_W 0 he0 (ci := 4) rfl 1 (by decide) k_fl_W_35 rfl rfl d_W_init_161 ?_
    refine lv_iload hx hb d_W_init_164 (lv_at hl 0 rfl) ?_
    refine z_aald (t0 := 3) (Cn := R_B) C hL 1 he1 rfl (by omega) (by omega) (show pf ad' (b + 1) b = some (ad' (5 * b + 10)) by unfold pf; rw [if_pos (by omega)]) d_W_init_166 ?_
    refine z_aast (t0 := 3) (r := (R_B, F_B, 8)) C hL 3 (5 * b + 10) he3 rfl heb rfl (by omega) (by omega) d_W_init_167 (fun H locs hL => ?_)
    rw [wX_set _ (by omega), pf_up] at hL
    replace hL := hL.congr (eI_next (b + 1))
    refine lv_iinc (lv' := [(4, _), (3, _), (0, _)]) hx hb d_W_init_168 hl (k := 0) rfl (nI_inc _) (by decide) rfl (fun ls hl => ?_)
    refine lv_goto (tgt := 132) hx hb d_W_init_171 (by decide) ?_
    exact W.widen (k := 9 + 5 * (b + 1)) (n := 12 + 2 * nb + 4 * (nb - 3) + 24 * (b + 1)) (by omega) (by omega) (ih (b + 1, ad') _ _ _ (by show nb - (b + 1) < nb - b; omega) ⟨by show b + 1 ≤ nb; omega, e0', hL, hl⟩)
end CW
end
section
/-! THE CLAIM OUT OF ONE WALK OF THE LAW'S BODY. Your part is whole_start (and what it stands on); all else here is the same for every law, but numbers. -/
def lw_P (b : Addr) (xs : List Int32) (args : Array Value) (s : State) : Prop := args = #[.ref b] ∧ s.IntsAt b xs ∧ xs.length ≤ 1538 ∧ (Jvm.Cond.and given_1 narrow_1).before args s = true
def lw_Q (_ : Array Value) (s : State) (o : Outcome) (t : State) : Prop := o = .returned (some (.int 1)) ∧ Framed s o t [] 600000 7302250
def lw_Z (below : List Frame) (a : Array Value) (s : State) : State → Prop := fun t => ∃ o, t.status = .running ∧ Ended t below o ∧ lw_Q a s o t
/-- the law's own end, with 1 on the stack, nothing written that was there before, its room as the claim has it -/
theorem lw_ret {p : Program} {l : Launch} {e : Env} {s : State} {m : MethodId} {below : List Frame} {meth : Method} {c : Code} {b : Nat} (hx : p.tables.exec = Jvm.exec) (hb : c.code = code) (hr : meth.sig.returnType = ret) (hlocks : meth.locks = false) {pc : Nat} {H : Heap} {ls : Array Slot} (hdg : decode code pc = .ok (.ireturn, 1)) : W p l e room_1 s m #[Value.ref b] below meth c H [] 600000 7302250 (lw_Z below #[Value.ref b] s) (F0 m pc ls [.int 1]) := by
  intro T hT X
  obtain ⟨fs, hret, hrun, hended, hW, hframe⟩ := X.leave (v := some (.int 1)) (hlocks := hlocks) (fun h => by rw [hr] at h; cases h)
  have hmeth' : T.vm.method? m = some meth := X.method'
  refine ⟨T.setFrames fs, ?_, .returned (some (.int 1)), hrun, hended, rfl, ⟨_, rfl⟩, hW, hframe⟩
  jvm_step X.here [X.here.top, hx, hb, hdg, hmeth', hr, ret, narrow_b1]
  (try refine ⟨rfl, ?_⟩); (try refine ⟨rfl, ?_⟩)
  first | (intro acts; rw [hret _ acts rfl rfl rfl]) | rw [hret _ _ rfl rfl rfl]
  exact Steps.refl _
/-- what holds at the law's entry: the machine, the code, the tables' words (any of lw_tbl by 'hts w (by decide +kernel)'), the script of L ints xs at the cell b, what the Statement gives of the start (any of its parts by flat_of_before) -/
def lw_At (p : Program) (s : State) (m : MethodId) (meth : Method) (c : Code) (b L : Nat) (xs : Nat → Int32) : Prop :=
  p.tables.exec = Jvm.exec ∧ c.code = code ∧ meth.sig.returnType = ret ∧ c.maxLocals = 4 ∧ s.vm.findClass R_law = some m.cls ∧ (∀ w ∈ lw_tbl, w.before #[Value.ref b] s = true) ∧ va_X b L xs s s.heap ∧ b < s.heap.size ∧ meth.locks = false ∧ (Jvm.Cond.and given_1 narrow_1).before #[Value.ref b] s = true
end
section
/-! THE LAW: the tables at its start; its two worlds; the script -/
theorem tbN_in : ∀ w ∈ tbN, w ∈ lw_tbl ∧ w.onTables = true := by decide +kernel
theorem ao_in : Cond.arrayOver (.object "WornFlash$Block") ∈ lw_tbl ∧ Cond.arrayOver (.object "WornFlash$Entry") ∈ lw_tbl := by decide +kernel
theorem fw_in : (Cond.declares y_P_prefers ∈ lw_tbl ∧ Cond.interfaceMethod y_P_prefers.cls y_P_prefers.cls y_P_prefers.name y_P_prefers.desc ∈ lw_tbl) ∧ (Cond.publicMethod y_G_prefers ∈ lw_tbl ∧ Cond.unhidden R_G y_P_prefers.name y_P_prefers.desc ∈ lw_tbl ∧ Cond.castable R_G y_P_prefers.cls ∈ lw_tbl) ∧ (Cond.publicMethod y_V_prefers ∈ lw_tbl ∧ Cond.unhidden R_V y_P_prefers.name y_P_prefers.desc ∈ lw_tbl ∧ Cond.castable R_V y_P_prefers.cls ∈ lw_tbl) := by decide +kernel
theorem Tb.of {s : State} {A : Array Value} (hts : ∀ w ∈ lw_tbl, w.before A s = true) : Tb s := by
  refine ⟨fun a w hw => word_at (State.WarmedH.refl s) (tb_good hw) (hts w (List.mem_filter.mp hw).1), fun w hw => va_Nw.of (tbN_in w hw).2 (hts w (tbN_in w hw).1), va_AO.of (hts _ ao_in.1), va_AO.of (hts _ ao_in.2), va_Fw.of (hts _ fw_in.1.1) (hts _ fw_in.1.2) (hts _ fw_in.2.1.1) (hts _ fw_in.2.1.2.1) (hts _ fw_in.2.1.2.2), va_Fw.of (hts _ fw_in.1.1) (hts _ fw_in.1.2) (hts _ fw_in.2.2.1) (hts _ fw_in.2.2.2.1) (hts _ fw_in.2.2.2.2)⟩
theorem arr_of {s : State} {A : Array Value} {ty : FieldType} (hp : ∀ C, ty ≠ .object C) (h : (Cond.arrayClass ty).before A s = true) : ∃ cA : ClassId, ArrOfT s cA ty ∧ va_RA s cA ty := by
  obtain ⟨cA, kA, comp, h1, h2, h3⟩ := Cond.arrayClass_spec h
  refine ⟨cA, fun n z => ⟨fun k h => (by cases h), kA, h2, comp, h3⟩, ?_⟩
  cases ty with
  | object C => exact absurd rfl (hp C)
  | _ => exact h1
theorem arr_ofO {s : State} {C : String} (h : va_AO C s) : ∃ cA : ClassId, ArrOfT s cA (.object C) ∧ va_RA s cA (.object C) := by
  obtain ⟨comp, cA, kA, h1, h2, h3, h4, h5⟩ := Cond.arrayOver_spec h
  exact ⟨cA, fun n z => ⟨fun k h => (by cases h), kA, h3, comp, h4⟩, kA, comp, h3, h4, h1, h5⟩
theorem K_of {s : State} (hT : Tb s) : ∃ (D : va_G) (cs : Nat → ClassId), va_K D classes (tyC cs) s := by
  obtain ⟨c0, i0, k0⟩ := u_known (C := R_B) (T := F_B) (N := 8) (n := 8) (hT.hts #[]) i_B (hT.hts #[] _ k_ins_B)
  obtain ⟨c1, i1, k1⟩ := u_known (C := R_E) (T := F_E) (N := 3) (n := 3) (hT.hts #[]) i_E (hT.hts #[] _ k_ins_E)
  obtain ⟨c2, i2, k2⟩ := u_known (C := R_G) (T := F_G) (N := 0) (n := 0) (hT.hts #[]) i_G (hT.hts #[] _ k_ins_G)
  obtain ⟨c3, i3, k3⟩ := u_known (C := R_V) (T := F_V) (N := 0) (n := 0) (hT.hts #[]) i_V (hT.hts #[] _ k_ins_V)
  obtain ⟨c4, i4, k4⟩ := u_known (C := R_W) (T := F_W) (N := 13) (n := 13) (hT.hts #[]) i_W (hT.hts #[] _ k_ins_W)
  obtain ⟨c5, i5, k5⟩ := u_known (C := R_M) (T := F_M) (N := 16) (n := 16) (hT.hts #[]) i_M (hT.hts #[] _ k_ins_M)
  obtain ⟨a0, x0⟩ := arr_of (ty := .byte) (fun C h => by cases h) (hT.hts #[] _ k_ac_byte)
  obtain ⟨a1, x1⟩ := arr_of (ty := .int) (fun C h => by cases h) (hT.hts #[] _ k_ac_int)
  obtain ⟨a2, x2⟩ := arr_of (ty := .boolean) (fun C h => by cases h) (hT.hts #[] _ k_ac_boolean)
  obtain ⟨a3, x3⟩ := arr_ofO hT.2.2.1
  obtain ⟨a4, x4⟩ := arr_ofO hT.2.2.2.1
  refine ⟨(fun k => [c0, c1, c2, c3, c4, c5].getD k c0, fun k => [i0, i1, i2, i3, i4, i5].getD k i0), fun k => [a0, a1, a2, a3, a4].getD k a0, fun k q hq => ?_, fun k q hq => ?_⟩
  · match k, hq with
    | 0, hq => cases hq; exact k0
    | 1, hq => cases hq; exact k1
    | 2, hq => cases hq; exact k2
    | 3, hq => cases hq; exact k3
    | 4, hq => cases hq; exact k4
    | 5, hq => cases hq; exact k5
    | k + 6, hq => simp [classes] at hq
  · match k, hq with
    | 0, hq => cases hq; exact x0
    | 1, hq => cases hq; exact x1
    | 2, hq => cases hq; exact x2
    | 3, hq => cases hq; exact x3
    | 4, hq => cases hq; exact x4
    | k + 5, hq => simp [tyC] at hq
theorem C_of {p : Program} {s : State} {m : MethodId} {meth : Method} {c : Code} {b L : Nat} {xs : Nat → Int32} (C0 : lw_At p s m meth c b L xs) : ∃ (D : va_G) (cs : Nat → ClassId), Cc p m c code 4 s #[Value.ref b] R_law D cs := by
  obtain ⟨hx, hb, hr, hml, hown, hts, hX, hbl, hlocks, hgv⟩ := C0
  have hT := Tb.of hts
  obtain ⟨D, cs, hK⟩ := K_of hT
  exact ⟨D, cs, ⟨hx, hb, hml, hown, hT.hts _⟩, hT, hK⟩
/-! the script's cell -/
def cv (L : Nat) (xs : Nat → Int32) (k : Nat) : Int32 := if k < L then xs k else 0
section LC
variable {l : Launch} {D : va_G} {cs : Nat → ClassId}
theorem c_L_cell {b L : Nat} {xs : Nat → Int32} (hL : L ≤ 1538) {k : Nat} (hk : k < 1000) : Met l y_L_cell [.code y_L_cell b_L_cell 2 (some .int)] (rmD 0 0 0) (va_Pc [.ref b, .int (nI k)] (fun U => Tb U ∧ va_K D classes (tyC cs) U ∧ (b < U.heap.size ∧ va_X b L xs U U.heap))) (vp_Si (fun r => r = cv L xs k)) 0 0 (fun _ => False) := by
  refine Met.ofW (cc := b_L_cell) (maxL := 2) (ret := some .int) (by decide) rfl ?_
  intro p e s m args below meth c s₁ B hml hv
  obtain ⟨rfl, hT, hK, hbl, hX⟩ := hv
  have C : Cc p m c b_L_cell 2 s [Value.ref b, Value.int (nI k)].toArray R_law D cs := ⟨⟨B.exec, B.bytes, hml, findClass_of_methodNamed B.named, hT.hts _⟩, hT, hK⟩
  have hx := C.1.1
  have hb := C.1.2.1
  have hlk := B.notSynchronized
  have hr := B.returns
  rw [lg_entry_eq]
  have hl := lv_entry [Value.ref b, Value.int (nI k)] (n := 2) (Nat.le_of_ble_eq_true rfl)
  generalize (lg_sl [Value.ref b, Value.int (nI k)] ++ List.replicate (2 - (lg_sl [Value.ref b, Value.int (nI k)]).length) Slot.unset).toArray = ls at hl ⊢
  have hS : va_S (fun _ => False) s.heap s.heap [] := va_S.rf
  refine lv_iload_n hx hb d_L_cell_0 rfl (lv_at hl 1 rfl) ?_
  refine lv_aload_n hx hb d_L_cell_1 rfl (lv_at hl 0 rfl) ?_
  refine va_slen hx hb hX hbl (fun h => h) hS d_L_cell_2 ?_
  refine bn_ge (tgt := 12) C (by omega) (by omega) d_L_cell_3 (by decide) (fun k1 => ?_) (fun k1 => ?_)
  · refine lv_iconst (v := 0) hx hb d_L_cell_12 (by decide) ?_
    exact rt_ROi C hr hlk (by rw [cv, if_neg (by omega)]) d_L_cell_13
  · refine lv_aload_n hx hb d_L_cell_6 rfl (lv_at hl 0 rfl) ?_
    refine lv_iload_n hx hb d_L_cell_7 rfl (lv_at hl 1 rfl) ?_
    refine va_sld hx hb hX hbl (fun h => h) hS (vp_in_nI (by omega) (by omega)) d_L_cell_8 ?_
    refine lv_goto (tgt := 13) hx hb d_L_cell_9 (by decide) ?_
    exact rt_ROi C hr hlk (by rw [cv, if_pos (by omega), nI_clamp (by omega)]) d_L_cell_13
end LC
/-! the two worlds -/
abbrev AL (s : State) : Nat → Prop := fun q => s.heap.size ≤ q
def GG (s : State) (nb : Nat) (ad am : Nat → Nat) : Prop := Geo ad (5 * nb + 10) ∧ Geo am 9 ∧ (∀ i j, i < 5 * nb + 10 → j < 9 → ad i ≠ am j) ∧ (∀ i, i < 5 * nb + 10 → s.heap.size ≤ ad i) ∧ ∀ j, j < 9 → s.heap.size ≤ am j
def LL (D : va_G) (cs : Nat → ClassId) (s : State) (nb : Nat) (ad am : Nat → Nat) (S : SW) (T : SM) (H : Heap) (locs : List Loc) : Prop := va_P D classes (wX ad (5 * nb + 10) (eC ad cs nb S)) H ∧ va_P D classes (wX am 9 (eM am cs T)) H ∧ va_S (AL s) s.heap H locs
section LR
variable {p : Program} {l : Launch} {e : Env} {R : Room} {s : State} {m : MethodId} {args : Array Value} {below : List Frame} {meth : Method} {c : Code} {H : Heap} {locs : List Loc} {cells slots : Nat} {Q : State → Prop}
variable {cc : ByteArray} {nL pc : Nat} {ls : Array Slot} {rest st : List Value} {D : va_G} {cs : Nat → ClassId} {nb : Nat} {ad am : Nat → Nat} {S : SW} {T : SM}
variable {y : MethodName} {bytes : ByteArray} {maxL d np index : Nat} {ret : Option FieldType} {As : List Value}
theorem keepM {H1 : Heap} (G : GG s nb ad am) (hP : va_P D classes (wX am 9 (eM am cs T)) H) (hk : ∀ q : Nat, q < H.size → ¬ AX ad (5 * nb + 10) q → H1[q]? = H[q]?) : va_P D classes (wX am 9 (eM am cs T)) H1 :=
  hP.kept (fun k q hq => by
    obtain ⟨h1, rfl⟩ := wX_of hq
    exact hk _ ((hP k _ hq).lt) (fun ⟨i, hi, e⟩ => G.2.2.1 i k hi h1 e.symm))
theorem keepW {H1 : Heap} (G : GG s nb ad am) (hP : va_P D classes (wX ad (5 * nb + 10) (eC ad cs nb S)) H) (hk : ∀ q : Nat, q < H.size → ¬ AX am 9 q → H1[q]? = H[q]?) : va_P D classes (wX ad (5 * nb + 10) (eC ad cs nb S)) H1 :=
  hP.kept (fun k q hq => by
    obtain ⟨h1, rfl⟩ := wX_of hq
    exact hk _ ((hP k _ hq).lt) (fun ⟨i, hi, e⟩ => G.2.2.1 k i h1 hi e))
theorem AW (G : GG s nb ad am) : ∀ q, AX ad (5 * nb + 10) q → AL s q := fun q ⟨i, hi, e⟩ => by rw [e]; exact G.2.2.2.1 i hi
theorem AM (G : GG s nb ad am) : ∀ q, AX am 9 q → AL s q := fun q ⟨i, hi, e⟩ => by rw [e]; exact G.2.2.2.2 i hi
theorem recW (C : Cc p m c cc nL s args R_law D cs) (hI : LL D cs s nb ad am S T H locs) (hy : y.cls = R_W) : ∃ cell : Cell, H[ad 0]? = some cell ∧ cell.vm.isStatics = false ∧ s.vm.findClass y.cls = some cell.cls := by
  rw [hy]
  exact va_recv (q := (R_W, F_W, 13)) (q0 := 0) (ci := 4) C.2.2 hI.1 rfl (wX_at (by omega))
theorem recM (C : Cc p m c cc nL s args R_law D cs) (hI : LL D cs s nb ad am S T H locs) (hy : y.cls = R_M) : ∃ cell : Cell, H[am 0]? = some cell ∧ cell.vm.isStatics = false ∧ s.vm.findClass y.cls = some cell.cls := by
  rw [hy]
  exact va_recv (q := (R_M, F_M, 16)) (q0 := 0) (ci := 5) C.2.2 hI.2.1 rfl (wX_at (by omega))
theorem lw_ROi {post : Int32 → Prop} (C : Cc p m c cc nL s args R_law D cs) (hI : LL D cs s nb ad am S T H locs) (hM : ROi l D cs ad (5 * nb + 10) (eC ad cs nb S) y bytes maxL ret d (.ref (ad 0) :: As) post) (Y : Yv y bytes maxL ret np) (hl : Cond.methodLink R_law index y ∈ tbG) (hy : y.cls = R_W) (hR : d + 1 ≤ R.frames ∧ 8 + (maxL + 11) + 27 * d ≤ R.locals) (hn : As.length = np) (hls : ls.size = nL) (hst : st = As.reverse ++ .ref (ad 0) :: rest) (hW : (rest.map fun v => v.category).sum ≤ 8) (hdg : decode cc pc = .ok (.invokevirtual index, 3)) (hf : cells ≤ R.cells ∧ slots ≤ R.slots)
    (kk : ∀ r : Int32, post r → W p l e R s m args below meth c H locs cells slots Q (F0 m (pc + 3) ls (.int r :: rest))) : W p l e R s m args below meth c H locs cells slots Q (F0 m pc ls st) :=
  vp_callSi (va_Run.run (run_V C hM Y hl hR (recW C hI hy) hI.1 hn hls hst hW hdg hf)) kk
theorem lm_ROi {post : Int32 → Prop} (C : Cc p m c cc nL s args R_law D cs) (hI : LL D cs s nb ad am S T H locs) (hM : ROi l D cs am 9 (eM am cs T) y bytes maxL ret d (.ref (am 0) :: As) post) (Y : Yv y bytes maxL ret np) (hl : Cond.methodLink R_law index y ∈ tbG) (hy : y.cls = R_M) (hR : d + 1 ≤ R.frames ∧ 8 + (maxL + 11) + 27 * d ≤ R.locals) (hn : As.length = np) (hls : ls.size = nL) (hst : st = As.reverse ++ .ref (am 0) :: rest) (hW : (rest.map fun v => v.category).sum ≤ 8) (hdg : decode cc pc = .ok (.invokevirtual index, 3)) (hf : cells ≤ R.cells ∧ slots ≤ R.slots)
    (kk : ∀ r : Int32, post r → W p l e R s m args below meth c H locs cells slots Q (F0 m (pc + 3) ls (.int r :: rest))) : W p l e R s m args below meth c H locs cells slots Q (F0 m pc ls st) :=
  vp_callSi (va_Run.run (run_V C hM Y hl hR (recM C hI hy) hI.2.1 hn hls hst hW hdg hf)) kk
theorem lw_RWi {post : Int32 → SW → Prop} (C : Cc p m c cc nL s args R_law D cs) (G : GG s nb ad am) (hI : LL D cs s nb ad am S T H locs) (hM : RWi l D cs ad (5 * nb + 10) (eC ad cs nb) y bytes maxL ret d (.ref (ad 0) :: As) S post) (Y : Yv y bytes maxL ret np) (hl : Cond.methodLink R_law index y ∈ tbG) (hy : y.cls = R_W) (hR : d + 1 ≤ R.frames ∧ 8 + (maxL + 11) + 27 * d ≤ R.locals) (hn : As.length = np) (hls : ls.size = nL) (hst : st = As.reverse ++ .ref (ad 0) :: rest) (hW : (rest.map fun v => v.category).sum ≤ 8) (hdg : decode cc pc = .ok (.invokevirtual index, 3)) (hf : cells ≤ R.cells ∧ slots ≤ R.slots)
    (kk : ∀ (r : Int32) (u : SW) (H1 : Heap) (locs1 : List Loc), post r u → LL D cs s nb ad am u T H1 locs1 → W p l e R s m args below meth c H1 locs1 cells slots Q (F0 m (pc + 3) ls (.int r :: rest))) : W p l e R s m args below meth c H locs cells slots Q (F0 m pc ls st) :=
  va_calli (run_V C hM Y hl hR (recW C hI hy) hI.1 hn hls hst hW hdg hf) hI.2.2 (fun q _ h => AW G q h) (AW G) (fun r u t H1 locs1 ht _ hp hB _ hk hS => kk r u H1 locs1 hp ⟨by rw [← ht]; exact hB, keepM G hI.2.1 hk, hS⟩)
theorem lm_RWi {post : Int32 → SM → Prop} (C : Cc p m c cc nL s args R_law D cs) (G : GG s nb ad am) (hI : LL D cs s nb ad am S T H locs) (hM : RWi l D cs am 9 (eM am cs) y bytes maxL ret d (.ref (am 0) :: As) T post) (Y : Yv y bytes maxL ret np) (hl : Cond.methodLink R_law index y ∈ tbG) (hy : y.cls = R_M) (hR : d + 1 ≤ R.frames ∧ 8 + (maxL + 11) + 27 * d ≤ R.locals) (hn : As.length = np) (hls : ls.size = nL) (hst : st = As.reverse ++ .ref (am 0) :: rest) (hW : (rest.map fun v => v.category).sum ≤ 8) (hdg : decode cc pc = .ok (.invokevirtual index, 3)) (hf : cells ≤ R.cells ∧ slots ≤ R.slots)
    (kk : ∀ (r : Int32) (u : SM) (H1 : Heap) (locs1 : List Loc), post r u → LL D cs s nb ad am S u H1 locs1 → W p l e R s m args below meth c H1 locs1 cells slots Q (F0 m (pc + 3) ls (.int r :: rest))) : W p l e R s m args below meth c H locs cells slots Q (F0 m pc ls st) :=
  va_calli (run_V C hM Y hl hR (recM C hI hy) hI.2.1 hn hls hst hW hdg hf) hI.2.2 (fun q _ h => AM G q h) (AM G) (fun r u t H1 locs1 ht _ hp hB _ hk hS => kk r u H1 locs1 hp ⟨keepW G hI.1 hk, by rw [← ht]; exact hB, hS⟩)
theorem lw_RWv {post : SW → Prop} (C : Cc p m c cc nL s args R_law D cs) (G : GG s nb ad am) (hI : LL D cs s nb ad am S T H locs) (hM : RWv l D cs ad (5 * nb + 10) (eC ad cs nb) y bytes maxL ret d (.ref (ad 0) :: As) S post) (Y : Yv y bytes maxL ret np) (hl : Cond.methodLink R_law index y ∈ tbG) (hy : y.cls = R_W) (hR : d + 1 ≤ R.frames ∧ 8 + (maxL + 11) + 27 * d ≤ R.locals) (hn : As.length = np) (hls : ls.size = nL) (hst : st = As.reverse ++ .ref (ad 0) :: rest) (hW : (rest.map fun v => v.category).sum ≤ 8) (hdg : decode cc pc = .ok (.invokevirtual index, 3)) (hf : cells ≤ R.cells ∧ slots ≤ R.slots)
    (kk : ∀ (u : SW) (H1 : Heap) (locs1 : List Loc), post u → LL D cs s nb ad am u T H1 locs1 → W p l e R s m args below meth c H1 locs1 cells slots Q (F0 m (pc + 3) ls rest)) : W p l e R s m args below meth c H locs cells slots Q (F0 m pc ls st) :=
  va_callv (run_V C hM Y hl hR (recW C hI hy) hI.1 hn hls hst hW hdg hf) hI.2.2 (fun q _ h => AW G q h) (AW G) (fun u t H1 locs1 ht _ hp hB _ hk hS => kk u H1 locs1 hp ⟨by rw [← ht]; exact hB, keepM G hI.2.1 hk, hS⟩)
theorem lm_RWv {post : SM → Prop} (C : Cc p m c cc nL s args R_law D cs) (G : GG s nb ad am) (hI : LL D cs s nb ad am S T H locs) (hM : RWv l D cs am 9 (eM am cs) y bytes maxL ret d (.ref (am 0) :: As) T post) (Y : Yv y bytes maxL ret np) (hl : Cond.methodLink R_law index y ∈ tbG) (hy : y.cls = R_M) (hR : d + 1 ≤ R.frames ∧ 8 + (maxL + 11) + 27 * d ≤ R.locals) (hn : As.length = np) (hls : ls.size = nL) (hst : st = As.reverse ++ .ref (am 0) :: rest) (hW : (rest.map fun v => v.category).sum ≤ 8) (hdg : decode cc pc = .ok (.invokevirtual index, 3)) (hf : cells ≤ R.cells ∧ slots ≤ R.slots)
    (kk : ∀ (u : SM) (H1 : Heap) (locs1 : List Loc), post u → LL D cs s nb ad am S u H1 locs1 → W p l e R s m args below meth c H1 locs1 cells slots Q (F0 m (pc + 3) ls rest)) : W p l e R s m args below meth c H locs cells slots Q (F0 m pc ls st) :=
  va_callv (run_V C hM Y hl hR (recM C hI hy) hI.2.1 hn hls hst hW hdg hf) hI.2.2 (fun q _ h => AM G q h) (AM G) (fun u t H1 locs1 ht _ hp hB _ hk hS => kk u H1 locs1 hp ⟨keepW G hI.1 hk, by rw [← ht]; exact hB, hS⟩)
/-- the script's cells -/
theorem s_ald {b L : Nat} {xs : Nat → Int32} (C : Cc p m c cc nL s args R_law D cs) (hX : va_X b L xs s s.heap) (hbl : b < s.heap.size) (hS : va_S (AL s) s.heap H locs) (hL : L ≤ 1538) {i : Nat} (hi : i < L) (hdg : decode cc pc = .ok (.iaload, 1))
    (kk : W p l e R s m args below meth c H locs cells slots Q (F0 m (pc + 1) ls (.int (xs i) :: rest))) : W p l e R s m args below meth c H locs cells slots Q (F0 m pc ls (.int (nI i) :: .ref b :: rest)) :=
  va_sld C.1.1 C.1.2.1 hX hbl (Nat.not_le.mpr hbl) hS (vp_in_nI hi (by omega)) hdg (by rw [nI_clamp (by omega)]; exact kk)
theorem s_len {b L : Nat} {xs : Nat → Int32} (C : Cc p m c cc nL s args R_law D cs) (hX : va_X b L xs s s.heap) (hbl : b < s.heap.size) (hS : va_S (AL s) s.heap H locs) (hdg : decode cc pc = .ok (.arraylength, 1))
    (kk : W p l e R s m args below meth c H locs cells slots Q (F0 m (pc + 1) ls (.int (nI L) :: rest))) : W p l e R s m args below meth c H locs cells slots Q (F0 m pc ls (.ref b :: rest)) :=
  va_slen C.1.1 C.1.2.1 hX hbl (Nat.not_le.mpr hbl) hS hdg kk
theorem s_cell {b L : Nat} {xs : Nat → Int32} (C : Cc p m c cc nL s args R_law D cs) (hX : va_X b L xs s s.heap) (hbl : b < s.heap.size) (hS : va_S (AL s) s.heap H locs) (hL : L ≤ 1538) {k : Nat} (hk : k < 1000) (hls : ls.size = nL) (hR : 1 ≤ R.frames ∧ 21 ≤ R.locals) (hW : (rest.map fun v => v.category).sum ≤ 8) (hdg : decode cc pc = .ok (.invokestatic 9, 3)) (hf : cells ≤ R.cells ∧ slots ≤ R.slots)
    (kk : W p l e R s m args below meth c H locs cells slots Q (F0 m (pc + 3) ls (.int (cv L xs k) :: rest))) : W p l e R s m args below meth c H locs cells slots Q (F0 m pc ls (.int (nI k) :: .ref b :: rest)) := by
  have hq : H[b]? = s.heap[b]? := hS.2.1 b hbl (Nat.not_le.mpr hbl)
  refine vp_callSi (va_Run.run (va_runS (As := [.ref b, .int (nI k)]) C.1 (c_L_cell (D := D) (cs := cs) hL hk) ⟨y_cb (mc := 0) (ms := 0) (d := 0) C yc_L_cell k_ml_L_9 (by omega), C.2.1.hts args _ k_st_L_cell⟩ ⟨fun a U g mk q => ⟨q.1, q.2.1.calling, va_K.moved (u := U) (U := U.calling g mk a) (Vm.Alike.refl U.vm) q.2.2.1, q.2.2.2.1, va_X.moved (u := U) (U := U.calling g mk a) (Vm.Alike.refl U.vm) q.2.2.2.2⟩, fun U hU hw => ⟨rfl, C.2.1.warm hw, va_K.moved hw.alike C.2.2, by rw [hU]; exact Nat.lt_of_lt_of_le hbl hS.1, by rw [hU]; exact va_X.moved hw.alike (hX.kept hq)⟩⟩ rfl rfl hls rfl (lv_room hW) hdg hf)) (fun r hr => by rw [hr]; exact kk)
end LR
end
section
/-! THE LAW, from its entry -/
theorem lw_bound {i L : Nat} (hi : i < 2 ^ 30) (hL : L < 2 ^ 30) (h : ¬ nI L - nI 3 < nI i) : i + 3 ≤ L := by
  rw [Int32.lt_iff_toInt_lt, pk_sub_toInt hL (by omega), nI_toInt (by omega)] at h
  omega
theorem nI_3 (t : Nat) : nI (2 + 3 * t) + Int32.ofInt 3 = nI (2 + 3 * (t + 1)) := by
  rw [show 2 + 3 * (t + 1) = 2 + 3 * t + 1 + 1 + 1 by omega, ← nI_inc, ← nI_inc, ← nI_inc, Int32.add_assoc, Int32.add_assoc]
  rfl
theorem whole_start {p : Program} {e : Env} {s : State} {m : MethodId} {below : List Frame} {meth : Method} {c : Code} (l : Launch) {b L : Nat} {xs : Nat → Int32} (hL : L ≤ 1538) (C0 : lw_At p s m meth c b L xs) : W p l e room_1 s m #[Value.ref b] below meth c s.heap [] 0 0 (lw_Z below #[Value.ref b] s) (entryFrame m ([Value.ref b] : List Value).toArray 4) := by
  obtain ⟨D, cs, C⟩ := C_of C0
  obtain ⟨hx, hb, hr, hml, hown, hts, hX, hbl, hlocks, hgv⟩ := C0
  have hL0 := hL
  have hl := lv_entry ([.ref b]) (n := 4) (Nat.le_of_ble_eq_true rfl)
  rw [lg_entry_eq]
  generalize (lg_sl ([.ref b]) ++ List.replicate (4 - (lg_sl ([.ref b])).length) Slot.unset).toArray = ls at hl ⊢
  have hl : lv_has ls 4 [(0, .ref b)] := hl
  have hA : ∀ q, s.heap.size ≤ q → AL s q := fun q h => h
  have hL : LW D (AL s) s [] s.heap [] := ⟨fun k q h => (by cases h), ⟨fun i j p q h => (by cases h), fun k q h => (by cases h)⟩, va_S.rf⟩
  refine z_new C hL hA i_W t_W t_W_ok k_cl_L_7 k_ins_W k_ini_W (ci := 4) rfl z_W_ok (by decide) d_law_0 (fun q H hL => ?_)
  refine lv_dup hx hb d_law_3 rfl ?_
  refine lv_aload_n hx hb d_law_4 rfl (lv_at hl 0 rfl) ?_
  refine lv_iconst (v := nI 0) hx hb d_law_5 (by decide) ?_
  refine s_cell C hX hbl hL.2.2 hL0 (by omega) hl.1 (by decide) (Nat.le_of_ble_eq_true rfl) d_law_6 (by decide) ?_
  refine lv_aload_n hx hb d_law_9 rfl (lv_at hl 0 rfl) ?_
  refine lv_iconst (v := nI 1) hx hb d_law_10 (by decide) ?_
  refine s_cell C hX hbl hL.2.2 hL0 (by omega) hl.1 (by decide) (Nat.le_of_ble_eq_true rfl) d_law_11 (by decide) ?_
  have hq0 : AL s q := hL.2.1.2 0 (q, .inr (4, z_W)) rfl
  have hF : ∀ r, AC q H.size r → AL s r := fun r h => by
    rcases h with h | h
    · rw [h]; exact hq0
    · exact Nat.le_trans hL.2.2.1 h
  refine va_callv (run_I (As := [.int (cv L xs 0), .int (cv L xs 1)]) C (c_W_init q H.size (cv L xs 0) (cv L xs 1)) yc_W_init rfl k_im_W_init k_ml_L_15 (by decide) ⟨hL.1, rfl⟩ rfl hl.1 rfl (Nat.le_of_ble_eq_true rfl) d_law_14 (by decide) ) hL.2.2 (fun r _ h => hF r h) hF (fun u t H1 locs1 ht _ hp hB hz hk hS => ?_)
  replace hL : LW D (AL s) s (wX u.1 (5 * nbOf (cv L xs 0) + 10) (eC u.1 cs (nbOf (cv L xs 0)) u.2)) H1 locs1 := z_join (wr := []) hL hk hF (by rw [← ht]; exact hB) hp.2.1 hS
  obtain ⟨ad, S⟩ := u
  obtain ⟨ha0, -, hRC⟩ := hp
  dsimp only at hL ha0 hRC
  clear hF hB hz hk hS ht hq0
  rw [← ha0]
  generalize H1 = H at hL ⊢
  generalize locs1 = locs at hL ⊢
  refine lv_astore_n (lv' := [(1, _), (0, _)]) hx hb d_law_17 rfl hl (by decide) rfl (fun ls hl => ?_)
  refine z_new C hL hA i_M t_M t_M_ok k_cl_L_18 k_ins_M k_ini_M (ci := 5) rfl z_M_ok (by decide) d_law_18 (fun q2 H hL => ?_)
  refine lv_dup hx hb d_law_21 rfl ?_
  refine lv_aload_n hx hb d_law_22 rfl (lv_at hl 1 rfl) ?_
  refine lv_iconst (v := nI 0) hx hb d_law_23 (by decide) ?_
  refine s_cell C hX hbl hL.2.2 hL0 (by omega) hl.1 (by decide) (Nat.le_of_ble_eq_true rfl) d_law_24 (by decide) ?_
  refine lv_aload_n hx hb d_law_27 rfl (lv_at hl 1 rfl) ?_
  refine lv_iconst (v := nI 1) hx hb d_law_28 (by decide) ?_
  refine s_cell C hX hbl hL.2.2 hL0 (by omega) hl.1 (by decide) (Nat.le_of_ble_eq_true rfl) d_law_29 (by decide) ?_
  have hz5 : (wX ad (5 * nbOf (cv L xs 0) + 10) (eC ad cs (nbOf (cv L xs 0)) S) ++ [(q2, (Sum.inr (5, z_M) : va_E))])[5 * nbOf (cv L xs 0) + 10]? = some (q2, .inr (5, z_M)) := by rw [List.getElem?_append_right (by simp [wX])]; simp [wX]
  have hq0 : AL s q2 := hL.2.1.2 _ _ hz5
  have hF : ∀ r, AC q2 H.size r → AL s r := fun r h => by
    rcases h with h | h
    · rw [h]; exact hq0
    · exact Nat.le_trans hL.2.2.1 h
  have hP0 : va_P D classes [(q2, .inr (5, z_M))] H := fun k y hy => by
    have hk1 : k < 1 := (List.getElem?_eq_some_iff.mp hy).1
    rw [show k = 0 by omega] at hy
    cases hy
    exact hL.1 _ _ hz5
  refine va_callv (run_I (As := [.int (cv L xs 0), .int (cv L xs 1)]) C (c_M_init q2 H.size (cv L xs 0) (cv L xs 1)) yc_M_init rfl k_im_M_init k_ml_L_20 (by decide) ⟨hP0, rfl⟩ rfl hl.1 rfl (Nat.le_of_ble_eq_true rfl) d_law_32 (by decide)) hL.2.2 (fun r _ h => hF r h) hF (fun u t H1 locs1 ht _ hp hB hz hk hS => ?_)
  replace hL : LW D (AL s) s (wX ad (5 * nbOf (cv L xs 0) + 10) (eC ad cs (nbOf (cv L xs 0)) S) ++ wX u.1 9 (eM u.1 cs u.2)) H1 locs1 := z_join hL hk hF (by rw [← ht]; exact hB) hp.2.1 hS
  obtain ⟨am, T⟩ := u
  obtain ⟨hm0, -, hRM⟩ := hp
  dsimp only at hL hm0 hRM
  clear hF hB hz hk hS ht hq0 hP0 hz5
  rw [← hm0]
  generalize H1 = H at hL ⊢
  generalize locs1 = locs at hL ⊢
  have hnb := nbOf_ok (cv L xs 0)
  have hsp := spOf_ok (cv L xs 1)
  generalize nbOf (cv L xs 0) = nb at *
  generalize spOf (cv L xs 1) = sp at *
  obtain ⟨G, hI⟩ : GG s nb ad am ∧ LL D cs s nb ad am S T H locs := by
    have hlen : (wX ad (5 * nb + 10) (eC ad cs nb S)).length = 5 * nb + 10 := by simp [wX]
    have h1 : ∀ i, i < 5 * nb + 10 → (wX ad (5 * nb + 10) (eC ad cs nb S) ++ wX am 9 (eM am cs T))[i]? = some (ad i, eC ad cs nb S i) := fun i hi => by
      rw [List.getElem?_append_left (by omega), wX_at hi]
    have h2 : ∀ j, j < 9 → (wX ad (5 * nb + 10) (eC ad cs nb S) ++ wX am 9 (eM am cs T))[5 * nb + 10 + j]? = some (am j, eM am cs T j) := fun j hj => by
      rw [List.getElem?_append_right (by omega), hlen, show 5 * nb + 10 + j - (5 * nb + 10) = j by omega, wX_at hj]
    refine ⟨⟨fun i j hi hj e => hL.2.1.1 i j _ _ (h1 i hi) (h1 j hj) e, fun i j hi hj e => ?_, fun i j hi hj e => ?_, fun i hi => hL.2.1.2 i _ (h1 i hi), fun j hj => hL.2.1.2 _ _ (h2 j hj)⟩, fun k q hq => ?_, fun k q hq => ?_, hL.2.2⟩
    · have := hL.2.1.1 _ _ _ _ (h2 i hi) (h2 j hj) e
      omega
    · have := hL.2.1.1 _ _ _ _ (h1 i hi) (h2 j hj) e
      omega
    · obtain ⟨hk, rfl⟩ := wX_of hq
      exact hL.1 _ _ (h1 k hk)
    · obtain ⟨hk, rfl⟩ := wX_of hq
      exact hL.1 _ _ (h2 k hk)
  clear hL
  refine lv_astore_n (lv' := [(2, _), (1, _), (0, _)]) hx hb d_law_35 rfl hl (by decide) rfl (fun ls hl => ?_)
  refine lv_iconst (v := nI 2) hx hb d_law_36 (by decide) ?_
  refine lv_istore_n (lv' := [(3, _), (2, _), (1, _), (0, _)]) hx hb d_law_37 rfl hl (by decide) rfl (fun ls hl => ?_)
  refine W_while (σ := Nat) (fun t => L - 3 * t) (fun t H locs ls => 3 * t ≤ L ∧ (∃ F π S T, WS nb sp (40 * t) F ∧ RC ad π nb sp F S ∧ RM nb sp F T ∧ LL D cs s nb ad am S T H locs) ∧ lv_has ls 4 [(3, .int (nI (2 + 3 * t))), (2, .ref (am 0)), (1, .ref (ad 0)), (0, .ref b)]) ?_ 0 ⟨Nat.zero_le _, ⟨F0l, _, S, T, new_ok hnb hsp, hRC, hRM, hI⟩, hl⟩
  clear hI hl hRC hRM
  rintro t H locs ls ⟨htL, ⟨F, π, S, T, hWS, hRC, hRM, hI⟩, hl⟩ ih
  have hB := hWS.1.1
  refine lv_iload_n hx hb d_law_38 rfl (lv_at hl 0 rfl) ?_
  refine lv_aload_n hx hb d_law_39 rfl (lv_at hl 3 rfl) ?_
  refine s_len C hX hbl hI.2.2 d_law_40 ?_
  refine lv_iconst (v := nI 3) hx hb d_law_41 (by decide) ?_
  refine lv_isub hx hb d_law_42 ?_
  refine lv_icmp_gt (tgt := 471) hx hb d_law_43 (by decide) (fun k1 => ?_) (fun k1 => ?_)
  · refine lv_iconst (v := 1) hx hb d_law_471 (by decide) ?_
    exact va_forget hI.2.2.2.2 (W.widen (by decide) (by decide) (lw_ret hx hb hr hlocks d_law_472))
  have hi3 : 2 + 3 * t + 3 ≤ L := lw_bound (by omega) (by omega) k1
  refine W_atH (pc2 := 465) (st2 := []) (fun H locs ls => (∃ F π S T, WS nb sp (40 * (t + 1)) F ∧ RC ad π nb sp F S ∧ RM nb sp F T ∧ LL D cs s nb ad am S T H locs) ∧ lv_has ls 4 [(3, .int (nI (2 + 3 * t))), (2, .ref (am 0)), (1, .ref (ad 0)), (0, .ref b)]) ?_ (fun J => ?_)
  · rintro H locs ls ⟨hE, hl⟩
    refine lv_iinc (lv' := [(3, _), (2, _), (1, _), (0, _)]) hx hb d_law_465 hl (k := 0) rfl (nI_3 t) (by decide) rfl (fun ls hl => ?_)
    refine lv_goto (tgt := 38) hx hb d_law_468 (by decide) ?_
    exact ih (t + 1) _ _ _ (by show L - 3 * (t + 1) < L - 3 * t; omega) ⟨by show 3 * (t + 1) ≤ L; omega, hE, hl⟩
  have J0 : WS nb sp (40 * (t + 1)) F := hWS.mono (by omega)
  refine lv_aload_n hx hb d_law_46 rfl (lv_at hl 3 rfl) ?_
  refine lv_iload_n hx hb d_law_47 rfl (lv_at hl 0 rfl) ?_
  refine s_ald C hX hbl hI.2.2 hL0 (by omega) d_law_48 ?_
  refine lv_bipush (v := nI 31) hx hb d_law_49 (by decide) ?_
  refine lv_iand hx hb d_law_51 ?_
  generalize xs (2 + 3 * t) &&& nI 31 = x
  by_cases hout : x.toInt < 0 ∨ (16 : Int) < x.toInt
  · refine lv_tableOut (tgt := 465) hx hb d_law_52 hout (by decide) ?_
    exact J _ _ _ ⟨⟨F, π, S, T, J0, hRC, hRM, hI⟩, hl⟩
  rcases (show x.toInt = 0 ∨ x.toInt = 1 ∨ x.toInt = 2 ∨ x.toInt = 3 ∨ x.toInt = 4 ∨ x.toInt = 5 ∨ x.toInt = 6 ∨ x.toInt = 7 ∨ x.toInt = 8 ∨ x.toInt = 9 ∨ x.toInt = 10 ∨ x.toInt = 11 ∨ x.toInt = 12 ∨ x.toInt = 13 ∨ x.toInt = 14 ∨ x.toInt = 15 ∨ x.toInt = 16 by omega) with hx0 | hx0 | hx0 | hx0 | hx0 | hx0 | hx0 | hx0 | hx0 | hx0 | hx0 | hx0 | hx0 | hx0 | hx0 | hx0 | hx0
  · refine lv_tableIn (off := 84) (tgt := 136) hx hb d_law_52 (by omega) (by omega) (by rw [hx0]; rfl) (by decide) ?_
    refine lv_aload_n hx hb d_law_136 rfl (lv_at hl 2 rfl) ?_
    refine lw_ROi C hI (c_W_sectors G.1) yv_W_sectors k_ml_L_21 rfl (by decide) rfl hl.1 rfl (Nat.le_of_ble_eq_true rfl) d_law_137 (by decide) (fun r0 hp0 => ?_)
    refine lv_aload_n hx hb d_law_140 rfl (lv_at hl 1 rfl) ?_
    refine lm_ROi C hI (c_M_sectors G.2.1 hRM hB) yv_M_sectors k_ml_L_25 rfl (by decide) rfl hl.1 rfl (Nat.le_of_ble_eq_true rfl) d_law_141 (by decide) (fun r1 hp1 => ?_)
    refine lv_icmp_eq (tgt := 465) hx hb d_law_144 (by decide) (fun k2 => ?_) (fun k2 => ?_)
    · exact J _ _ _ ⟨⟨F, π, S, T, J0, hRC, hRM, hI⟩, hl⟩
    · exact absurd (hp0.trans hp1.symm) k2
  · refine lv_tableIn (off := 97) (tgt := 149) hx hb d_law_52 (by omega) (by omega) (by rw [hx0]; rfl) (by decide) ?_
    have hO := chg_ok hWS (by omega) (xs (2 + 3 * t + 1)) (xs (2 + 3 * t + 2)) false
    refine lv_aload_n hx hb d_law_149 rfl (lv_at hl 2 rfl) ?_
    refine lv_aload_n hx hb d_law_150 rfl (lv_at hl 3 rfl) ?_
    refine lv_iload_n hx hb d_law_151 rfl (lv_at hl 0 rfl) ?_
    refine lv_iconst (v := nI 1) hx hb d_law_152 (by decide) ?_
    refine an_add C d_law_153 ?_
    refine s_ald C hX hbl hI.2.2 hL0 (by omega) d_law_154 ?_
    refine lv_aload_n hx hb d_law_155 rfl (lv_at hl 3 rfl) ?_
    refine lv_iload_n hx hb d_law_156 rfl (lv_at hl 0 rfl) ?_
    refine lv_iconst (v := nI 2) hx hb d_law_157 (by decide) ?_
    refine an_add C d_law_158 ?_
    refine s_ald C hX hbl hI.2.2 hL0 (by omega) d_law_159 ?_
    refine lw_RWi C G hI (c_W_write G.1 hRC (xs (2 + 3 * t + 1)) (xs (2 + 3 * t + 2)) hO.1) yv_W_write k_ml_L_26 rfl (by decide) rfl hl.1 rfl (Nat.le_of_ble_eq_true rfl) d_law_160 (by decide) (fun r0 S2 H locs hp0 hI => ?_)
    refine lv_aload_n hx hb d_law_163 rfl (lv_at hl 1 rfl) ?_
    refine lv_aload_n hx hb d_law_164 rfl (lv_at hl 3 rfl) ?_
    refine lv_iload_n hx hb d_law_165 rfl (lv_at hl 0 rfl) ?_
    refine lv_iconst (v := nI 1) hx hb d_law_166 (by decide) ?_
    refine an_add C d_law_167 ?_
    refine s_ald C hX hbl hI.2.2 hL0 (by omega) d_law_168 ?_
    refine lv_aload_n hx hb d_law_169 rfl (lv_at hl 3 rfl) ?_
    refine lv_iload_n hx hb d_law_170 rfl (lv_at hl 0 rfl) ?_
    refine lv_iconst (v := nI 2) hx hb d_law_171 (by decide) ?_
    refine an_add C d_law_172 ?_
    refine s_ald C hX hbl hI.2.2 hL0 (by omega) d_law_173 ?_
    refine lm_RWi C G hI (c_M_write G.2.1 hRM (xs (2 + 3 * t + 1)) (xs (2 + 3 * t + 2)) hO.1) yv_M_write k_ml_L_30 rfl (by decide) rfl hl.1 rfl (Nat.le_of_ble_eq_true rfl) d_law_174 (by decide) (fun r1 T2 H locs hp1 hI => ?_)
    refine lv_icmp_eq (tgt := 465) hx hb d_law_177 (by decide) (fun k2 => ?_) (fun k2 => ?_)
    · obtain ⟨π2, hR2⟩ := hp0.2
      exact J _ _ _ ⟨⟨_, π2, S2, T2, hO.2.mono (by omega), hR2, hp1.2, hI⟩, hl⟩
    · exact absurd (hp0.1.trans hp1.1.symm) k2
  · refine lv_tableIn (off := 130) (tgt := 182) hx hb d_law_52 (by omega) (by omega) (by rw [hx0]; rfl) (by decide) ?_
    have hO := chg_ok hWS (by omega) (xs (2 + 3 * t + 1)) 0 true
    refine lv_aload_n hx hb d_law_182 rfl (lv_at hl 2 rfl) ?_
    refine lv_aload_n hx hb d_law_183 rfl (lv_at hl 3 rfl) ?_
    refine lv_iload_n hx hb d_law_184 rfl (lv_at hl 0 rfl) ?_
    refine lv_iconst (v := nI 1) hx hb d_law_185 (by decide) ?_
    refine an_add C d_law_186 ?_
    refine s_ald C hX hbl hI.2.2 hL0 (by omega) d_law_187 ?_
    refine lw_RWi C G hI (c_W_trim G.1 hRC (xs (2 + 3 * t + 1)) hO.1) yv_W_trim k_ml_L_31 rfl (by decide) rfl hl.1 rfl (Nat.le_of_ble_eq_true rfl) d_law_188 (by decide) (fun r0 S2 H locs hp0 hI => ?_)
    refine lv_aload_n hx hb d_law_191 rfl (lv_at hl 1 rfl) ?_
    refine lv_aload_n hx hb d_law_192 rfl (lv_at hl 3 rfl) ?_
    refine lv_iload_n hx hb d_law_193 rfl (lv_at hl 0 rfl) ?_
    refine lv_iconst (v := nI 1) hx hb d_law_194 (by decide) ?_
    refine an_add C d_law_195 ?_
    refine s_ald C hX hbl hI.2.2 hL0 (by omega) d_law_196 ?_
    refine lm_RWi C G hI (c_M_trim G.2.1 hRM (xs (2 + 3 * t + 1)) hO.1) yv_M_trim k_ml_L_35 rfl (by decide) rfl hl.1 rfl (Nat.le_of_ble_eq_true rfl) d_law_197 (by decide) (fun r1 T2 H locs hp1 hI => ?_)
    refine lv_icmp_eq (tgt := 465) hx hb d_law_200 (by decide) (fun k2 => ?_) (fun k2 => ?_)
    · obtain ⟨π2, hR2⟩ := hp0.2
      exact J _ _ _ ⟨⟨_, π2, S2, T2, hO.2.mono (by omega), hR2, hp1.2, hI⟩, hl⟩
    · exact absurd (hp0.1.trans hp1.1.symm) k2
  · refine lv_tableIn (off := 153) (tgt := 205) hx hb d_law_52 (by omega) (by omega) (by rw [hx0]; rfl) (by decide) ?_
    have hO := flush_ok hWS rfl (by have := hB.bl; omega)
    refine lv_aload_n hx hb d_law_205 rfl (lv_at hl 2 rfl) ?_
    refine lw_RWi C G hI (c_W_flush G.1 hRC hO.1) yv_W_flush k_ml_L_36 rfl (by decide) rfl hl.1 rfl (Nat.le_of_ble_eq_true rfl) d_law_206 (by decide) (fun r0 S2 H locs hp0 hI => ?_)
    refine lv_aload_n hx hb d_law_209 rfl (lv_at hl 1 rfl) ?_
    refine lm_RWi C G hI (c_M_flush G.2.1 hRM hO.1) yv_M_flush k_ml_L_39 rfl (by decide) rfl hl.1 rfl (Nat.le_of_ble_eq_true rfl) d_law_210 (by decide) (fun r1 T2 H locs hp1 hI => ?_)
    refine lv_icmp_eq (tgt := 465) hx hb d_law_213 (by decide) (fun k2 => ?_) (fun k2 => ?_)
    · obtain ⟨π2, hR2⟩ := hp0.2
      exact J _ _ _ ⟨⟨_, π2, S2, T2, hO.2.mono (by have := hB.bl; omega), hR2, hp1.2, hI⟩, hl⟩
    · exact absurd (hp0.1.trans hp1.1.symm) k2
  · refine lv_tableIn (off := 166) (tgt := 218) hx hb d_law_52 (by omega) (by omega) (by rw [hx0]; rfl) (by decide) ?_
    have hO := lost_ok hWS.x (by omega)
    refine lv_aload_n hx hb d_law_218 rfl (lv_at hl 2 rfl) ?_
    refine lw_RWv C G hI (c_W_cut G.1 hRC hO.1) yv_W_cut k_ml_L_40 rfl (by decide) rfl hl.1 rfl (Nat.le_of_ble_eq_true rfl) d_law_219 (by decide) (fun S2 H locs hp0 hI => ?_)
    refine lv_aload_n hx hb d_law_222 rfl (lv_at hl 1 rfl) ?_
    refine lm_RWv C G hI (c_M_cut G.2.1 hRM hO.1) yv_M_cut k_ml_L_43 rfl (by decide) rfl hl.1 rfl (Nat.le_of_ble_eq_true rfl) d_law_223 (by decide) (fun T2 H locs hp1 hI => ?_)
    refine lv_goto (tgt := 465) hx hb d_law_226 (by decide) ?_
    exact J _ _ _ ⟨⟨_, π, S2, T2, hO.2.mono (by omega), hp0, hp1, hI⟩, hl⟩
  · refine lv_tableIn (off := 177) (tgt := 229) hx hb d_law_52 (by omega) (by omega) (by rw [hx0]; rfl) (by decide) ?_
    have hO := fuse_ok hWS (xs (2 + 3 * t + 1))
    refine lv_aload_n hx hb d_law_229 rfl (lv_at hl 2 rfl) ?_
    refine lv_aload_n hx hb d_law_230 rfl (lv_at hl 3 rfl) ?_
    refine lv_iload_n hx hb d_law_231 rfl (lv_at hl 0 rfl) ?_
    refine lv_iconst (v := nI 1) hx hb d_law_232 (by decide) ?_
    refine an_add C d_law_233 ?_
    refine s_ald C hX hbl hI.2.2 hL0 (by omega) d_law_234 ?_
    refine lw_RWi C G hI (c_W_fuse G.1 hRC (xs (2 + 3 * t + 1))) yv_W_fuse k_ml_L_44 rfl (by decide) rfl hl.1 rfl (Nat.le_of_ble_eq_true rfl) d_law_235 (by decide) (fun r0 S2 H locs hp0 hI => ?_)
    refine lv_aload_n hx hb d_law_238 rfl (lv_at hl 1 rfl) ?_
    refine lv_aload_n hx hb d_law_239 rfl (lv_at hl 3 rfl) ?_
    refine lv_iload_n hx hb d_law_240 rfl (lv_at hl 0 rfl) ?_
    refine lv_iconst (v := nI 1) hx hb d_law_241 (by decide) ?_
    refine an_add C d_law_242 ?_
    refine s_ald C hX hbl hI.2.2 hL0 (by omega) d_law_243 ?_
    refine lm_RWi C G hI (c_M_fuse G.2.1 hRM (xs (2 + 3 * t + 1))) yv_M_fuse k_ml_L_48 rfl (by decide) rfl hl.1 rfl (Nat.le_of_ble_eq_true rfl) d_law_244 (by decide) (fun r1 T2 H locs hp1 hI => ?_)
    refine lv_icmp_eq (tgt := 465) hx hb d_law_247 (by decide) (fun k2 => ?_) (fun k2 => ?_)
    · exact J _ _ _ ⟨⟨_, π, S2, T2, hO.mono (by omega), hp0.2, hp1.2, hI⟩, hl⟩
    · exact absurd (hp0.1.trans hp1.1.symm) k2
  · refine lv_tableIn (off := 200) (tgt := 252) hx hb d_law_52 (by omega) (by omega) (by rw [hx0]; rfl) (by decide) ?_
    refine lv_aload_n hx hb d_law_252 rfl (lv_at hl 2 rfl) ?_
    refine lv_aload_n hx hb d_law_253 rfl (lv_at hl 3 rfl) ?_
    refine lv_iload_n hx hb d_law_254 rfl (lv_at hl 0 rfl) ?_
    refine lv_iconst (v := nI 1) hx hb d_law_255 (by decide) ?_
    refine an_add C d_law_256 ?_
    refine s_ald C hX hbl hI.2.2 hL0 (by omega) d_law_257 ?_
    refine lw_ROi C hI (c_W_read G.1 hRC.1 hB (xs (2 + 3 * t + 1))) yv_W_read k_ml_L_49 rfl (by decide) rfl hl.1 rfl (Nat.le_of_ble_eq_true rfl) d_law_258 (by decide) (fun r0 hp0 => ?_)
    refine lv_aload_n hx hb d_law_261 rfl (lv_at hl 1 rfl) ?_
    refine lv_aload_n hx hb d_law_262 rfl (lv_at hl 3 rfl) ?_
    refine lv_iload_n hx hb d_law_263 rfl (lv_at hl 0 rfl) ?_
    refine lv_iconst (v := nI 1) hx hb d_law_264 (by decide) ?_
    refine an_add C d_law_265 ?_
    refine s_ald C hX hbl hI.2.2 hL0 (by omega) d_law_266 ?_
    refine lm_ROi C hI (c_M_read G.2.1 hRM hB (xs (2 + 3 * t + 1))) yv_M_read k_ml_L_52 rfl (by decide) rfl hl.1 rfl (Nat.le_of_ble_eq_true rfl) d_law_267 (by decide) (fun r1 hp1 => ?_)
    refine lv_icmp_eq (tgt := 465) hx hb d_law_270 (by decide) (fun k2 => ?_) (fun k2 => ?_)
    · exact J _ _ _ ⟨⟨F, π, S, T, J0, hRC, hRM, hI⟩, hl⟩
    · exact absurd (hp0.trans hp1.symm) k2
  · refine lv_tableIn (off := 223) (tgt := 275) hx hb d_law_52 (by omega) (by omega) (by rw [hx0]; rfl) (by decide) ?_
    refine lv_aload_n hx hb d_law_275 rfl (lv_at hl 2 rfl) ?_
    refine lv_aload_n hx hb d_law_276 rfl (lv_at hl 3 rfl) ?_
    refine lv_iload_n hx hb d_law_277 rfl (lv_at hl 0 rfl) ?_
    refine lv_iconst (v := nI 1) hx hb d_law_278 (by decide) ?_
    refine an_add C d_law_279 ?_
    refine s_ald C hX hbl hI.2.2 hL0 (by omega) d_law_280 ?_
    refine lw_ROi C hI (c_W_holds G.1 hRC.1 hB (xs (2 + 3 * t + 1))) yv_W_holds k_ml_L_53 rfl (by decide) rfl hl.1 rfl (Nat.le_of_ble_eq_true rfl) d_law_281 (by decide) (fun r0 hp0 => ?_)
    refine lv_aload_n hx hb d_law_284 rfl (lv_at hl 1 rfl) ?_
    refine lv_aload_n hx hb d_law_285 rfl (lv_at hl 3 rfl) ?_
    refine lv_iload_n hx hb d_law_286 rfl (lv_at hl 0 rfl) ?_
    refine lv_iconst (v := nI 1) hx hb d_law_287 (by decide) ?_
    refine an_add C d_law_288 ?_
    refine s_ald C hX hbl hI.2.2 hL0 (by omega) d_law_289 ?_
    refine lm_ROi C hI (c_M_holds G.2.1 hRM hB (xs (2 + 3 * t + 1))) yv_M_holds k_ml_L_56 rfl (by decide) rfl hl.1 rfl (Nat.le_of_ble_eq_true rfl) d_law_290 (by decide) (fun r1 hp1 => ?_)
    refine lv_icmp_eq (tgt := 465) hx hb d_law_293 (by decide) (fun k2 => ?_) (fun k2 => ?_)
    · exact J _ _ _ ⟨⟨F, π, S, T, J0, hRC, hRM, hI⟩, hl⟩
    · exact absurd (hp0.trans hp1.symm) k2
  · refine lv_tableIn (off := 246) (tgt := 298) hx hb d_law_52 (by omega) (by omega) (by rw [hx0]; rfl) (by decide) ?_
    refine lv_aload_n hx hb d_law_298 rfl (lv_at hl 2 rfl) ?_
    refine lw_ROi C hI (c_W_buffered G.1 hRC.1) yv_W_buffered k_ml_L_57 rfl (by decide) rfl hl.1 rfl (Nat.le_of_ble_eq_true rfl) d_law_299 (by decide) (fun r0 hp0 => ?_)
    refine lv_aload_n hx hb d_law_302 rfl (lv_at hl 1 rfl) ?_
    refine lm_ROi C hI (c_M_buffered G.2.1 hRM) yv_M_buffered k_ml_L_60 rfl (by decide) rfl hl.1 rfl (Nat.le_of_ble_eq_true rfl) d_law_303 (by decide) (fun r1 hp1 => ?_)
    refine lv_icmp_eq (tgt := 465) hx hb d_law_306 (by decide) (fun k2 => ?_) (fun k2 => ?_)
    · exact J _ _ _ ⟨⟨F, π, S, T, J0, hRC, hRM, hI⟩, hl⟩
    · exact absurd (hp0.trans hp1.symm) k2
  · refine lv_tableIn (off := 259) (tgt := 311) hx hb d_law_52 (by omega) (by omega) (by rw [hx0]; rfl) (by decide) ?_
    refine lv_aload_n hx hb d_law_311 rfl (lv_at hl 2 rfl) ?_
    refine lv_aload_n hx hb d_law_312 rfl (lv_at hl 3 rfl) ?_
    refine lv_iload_n hx hb d_law_313 rfl (lv_at hl 0 rfl) ?_
    refine lv_iconst (v := nI 1) hx hb d_law_314 (by decide) ?_
    refine an_add C d_law_315 ?_
    refine s_ald C hX hbl hI.2.2 hL0 (by omega) d_law_316 ?_
    refine lw_ROi C hI (c_W_place G.1 hRC.1 hB (xs (2 + 3 * t + 1))) yv_W_place k_ml_L_61 rfl (by decide) rfl hl.1 rfl (Nat.le_of_ble_eq_true rfl) d_law_317 (by decide) (fun r0 hp0 => ?_)
    refine lv_aload_n hx hb d_law_320 rfl (lv_at hl 1 rfl) ?_
    refine lv_aload_n hx hb d_law_321 rfl (lv_at hl 3 rfl) ?_
    refine lv_iload_n hx hb d_law_322 rfl (lv_at hl 0 rfl) ?_
    refine lv_iconst (v := nI 1) hx hb d_law_323 (by decide) ?_
    refine an_add C d_law_324 ?_
    refine s_ald C hX hbl hI.2.2 hL0 (by omega) d_law_325 ?_
    refine lm_ROi C hI (c_M_place G.2.1 hRM hB (xs (2 + 3 * t + 1))) yv_M_place k_ml_L_64 rfl (by decide) rfl hl.1 rfl (Nat.le_of_ble_eq_true rfl) d_law_326 (by decide) (fun r1 hp1 => ?_)
    refine lv_icmp_eq (tgt := 465) hx hb d_law_329 (by decide) (fun k2 => ?_) (fun k2 => ?_)
    · exact J _ _ _ ⟨⟨F, π, S, T, J0, hRC, hRM, hI⟩, hl⟩
    · exact absurd (hp0.trans hp1.symm) k2
  · refine lv_tableIn (off := 282) (tgt := 334) hx hb d_law_52 (by omega) (by omega) (by rw [hx0]; rfl) (by decide) ?_
    refine lv_aload_n hx hb d_law_334 rfl (lv_at hl 2 rfl) ?_
    refine lv_aload_n hx hb d_law_335 rfl (lv_at hl 3 rfl) ?_
    refine lv_iload_n hx hb d_law_336 rfl (lv_at hl 0 rfl) ?_
    refine lv_iconst (v := nI 1) hx hb d_law_337 (by decide) ?_
    refine an_add C d_law_338 ?_
    refine s_ald C hX hbl hI.2.2 hL0 (by omega) d_law_339 ?_
    refine lw_ROi C hI (c_W_tag G.1 hRC.1 hB (xs (2 + 3 * t + 1))) yv_W_tag k_ml_L_65 rfl (by decide) rfl hl.1 rfl (Nat.le_of_ble_eq_true rfl) d_law_340 (by decide) (fun r0 hp0 => ?_)
    refine lv_aload_n hx hb d_law_343 rfl (lv_at hl 1 rfl) ?_
    refine lv_aload_n hx hb d_law_344 rfl (lv_at hl 3 rfl) ?_
    refine lv_iload_n hx hb d_law_345 rfl (lv_at hl 0 rfl) ?_
    refine lv_iconst (v := nI 1) hx hb d_law_346 (by decide) ?_
    refine an_add C d_law_347 ?_
    refine s_ald C hX hbl hI.2.2 hL0 (by omega) d_law_348 ?_
    refine lm_ROi C hI (c_M_tag G.2.1 hRM hB (xs (2 + 3 * t + 1))) yv_M_tag k_ml_L_68 rfl (by decide) rfl hl.1 rfl (Nat.le_of_ble_eq_true rfl) d_law_349 (by decide) (fun r1 hp1 => ?_)
    refine lv_icmp_eq (tgt := 465) hx hb d_law_352 (by decide) (fun k2 => ?_) (fun k2 => ?_)
    · exact J _ _ _ ⟨⟨F, π, S, T, J0, hRC, hRM, hI⟩, hl⟩
    · exact absurd (hp0.trans hp1.symm) k2
  · refine lv_tableIn (off := 305) (tgt := 357) hx hb d_law_52 (by omega) (by omega) (by rw [hx0]; rfl) (by decide) ?_
    refine lv_aload_n hx hb d_law_357 rfl (lv_at hl 2 rfl) ?_
    refine lv_aload_n hx hb d_law_358 rfl (lv_at hl 3 rfl) ?_
    refine lv_iload_n hx hb d_law_359 rfl (lv_at hl 0 rfl) ?_
    refine lv_iconst (v := nI 1) hx hb d_law_360 (by decide) ?_
    refine an_add C d_law_361 ?_
    refine s_ald C hX hbl hI.2.2 hL0 (by omega) d_law_362 ?_
    refine lw_ROi C hI (c_W_serial G.1 hRC.1 hB (xs (2 + 3 * t + 1))) yv_W_serial k_ml_L_69 rfl (by decide) rfl hl.1 rfl (Nat.le_of_ble_eq_true rfl) d_law_363 (by decide) (fun r0 hp0 => ?_)
    refine lv_aload_n hx hb d_law_366 rfl (lv_at hl 1 rfl) ?_
    refine lv_aload_n hx hb d_law_367 rfl (lv_at hl 3 rfl) ?_
    refine lv_iload_n hx hb d_law_368 rfl (lv_at hl 0 rfl) ?_
    refine lv_iconst (v := nI 1) hx hb d_law_369 (by decide) ?_
    refine an_add C d_law_370 ?_
    refine s_ald C hX hbl hI.2.2 hL0 (by omega) d_law_371 ?_
    refine lm_ROi C hI (c_M_serial G.2.1 hRM hB (xs (2 + 3 * t + 1))) yv_M_serial k_ml_L_72 rfl (by decide) rfl hl.1 rfl (Nat.le_of_ble_eq_true rfl) d_law_372 (by decide) (fun r1 hp1 => ?_)
    refine lv_icmp_eq (tgt := 465) hx hb d_law_375 (by decide) (fun k2 => ?_) (fun k2 => ?_)
    · exact J _ _ _ ⟨⟨F, π, S, T, J0, hRC, hRM, hI⟩, hl⟩
    · exact absurd (hp0.trans hp1.symm) k2
  · refine lv_tableIn (off := 328) (tgt := 380) hx hb d_law_52 (by omega) (by omega) (by rw [hx0]; rfl) (by decide) ?_
    refine lv_aload_n hx hb d_law_380 rfl (lv_at hl 2 rfl) ?_
    refine lv_aload_n hx hb d_law_381 rfl (lv_at hl 3 rfl) ?_
    refine lv_iload_n hx hb d_law_382 rfl (lv_at hl 0 rfl) ?_
    refine lv_iconst (v := nI 1) hx hb d_law_383 (by decide) ?_
    refine an_add C d_law_384 ?_
    refine s_ald C hX hbl hI.2.2 hL0 (by omega) d_law_385 ?_
    refine lw_ROi C hI (c_W_valid G.1 hRC.1 hB (xs (2 + 3 * t + 1))) yv_W_valid k_ml_L_73 rfl (by decide) rfl hl.1 rfl (Nat.le_of_ble_eq_true rfl) d_law_386 (by decide) (fun r0 hp0 => ?_)
    refine lv_aload_n hx hb d_law_389 rfl (lv_at hl 1 rfl) ?_
    refine lv_aload_n hx hb d_law_390 rfl (lv_at hl 3 rfl) ?_
    refine lv_iload_n hx hb d_law_391 rfl (lv_at hl 0 rfl) ?_
    refine lv_iconst (v := nI 1) hx hb d_law_392 (by decide) ?_
    refine an_add C d_law_393 ?_
    refine s_ald C hX hbl hI.2.2 hL0 (by omega) d_law_394 ?_
    refine lm_ROi C hI (c_M_valid G.2.1 hRM hB (xs (2 + 3 * t + 1))) yv_M_valid k_ml_L_76 rfl (by decide) rfl hl.1 rfl (Nat.le_of_ble_eq_true rfl) d_law_395 (by decide) (fun r1 hp1 => ?_)
    refine lv_icmp_eq (tgt := 465) hx hb d_law_398 (by decide) (fun k2 => ?_) (fun k2 => ?_)
    · exact J _ _ _ ⟨⟨F, π, S, T, J0, hRC, hRM, hI⟩, hl⟩
    · exact absurd (hp0.trans hp1.symm) k2
  · refine lv_tableIn (off := 351) (tgt := 403) hx hb d_law_52 (by omega) (by omega) (by rw [hx0]; rfl) (by decide) ?_
    refine lv_aload_n hx hb d_law_403 rfl (lv_at hl 2 rfl) ?_
    refine lv_aload_n hx hb d_law_404 rfl (lv_at hl 3 rfl) ?_
    refine lv_iload_n hx hb d_law_405 rfl (lv_at hl 0 rfl) ?_
    refine lv_iconst (v := nI 1) hx hb d_law_406 (by decide) ?_
    refine an_add C d_law_407 ?_
    refine s_ald C hX hbl hI.2.2 hL0 (by omega) d_law_408 ?_
    refine lw_ROi C hI (c_W_erasures G.1 hRC.1 hB (xs (2 + 3 * t + 1))) yv_W_erasures k_ml_L_77 rfl (by decide) rfl hl.1 rfl (Nat.le_of_ble_eq_true rfl) d_law_409 (by decide) (fun r0 hp0 => ?_)
    refine lv_aload_n hx hb d_law_412 rfl (lv_at hl 1 rfl) ?_
    refine lv_aload_n hx hb d_law_413 rfl (lv_at hl 3 rfl) ?_
    refine lv_iload_n hx hb d_law_414 rfl (lv_at hl 0 rfl) ?_
    refine lv_iconst (v := nI 1) hx hb d_law_415 (by decide) ?_
    refine an_add C d_law_416 ?_
    refine s_ald C hX hbl hI.2.2 hL0 (by omega) d_law_417 ?_
    refine lm_ROi C hI (c_M_erasures G.2.1 hRM hB (xs (2 + 3 * t + 1))) yv_M_erasures k_ml_L_80 rfl (by decide) rfl hl.1 rfl (Nat.le_of_ble_eq_true rfl) d_law_418 (by decide) (fun r1 hp1 => ?_)
    refine lv_icmp_eq (tgt := 465) hx hb d_law_421 (by decide) (fun k2 => ?_) (fun k2 => ?_)
    · exact J _ _ _ ⟨⟨F, π, S, T, J0, hRC, hRM, hI⟩, hl⟩
    · exact absurd (hp0.trans hp1.symm) k2
  · refine lv_tableIn (off := 374) (tgt := 426) hx hb d_law_52 (by omega) (by omega) (by rw [hx0]; rfl) (by decide) ?_
    refine lv_aload_n hx hb d_law_426 rfl (lv_at hl 2 rfl) ?_
    refine lw_ROi C hI (c_W_open G.1 hRC.1 hB) yv_W_open k_ml_L_81 rfl (by decide) rfl hl.1 rfl (Nat.le_of_ble_eq_true rfl) d_law_427 (by decide) (fun r0 hp0 => ?_)
    refine lv_aload_n hx hb d_law_430 rfl (lv_at hl 1 rfl) ?_
    refine lm_ROi C hI (c_M_open G.2.1 hRM) yv_M_open k_ml_L_84 rfl (by decide) rfl hl.1 rfl (Nat.le_of_ble_eq_true rfl) d_law_431 (by decide) (fun r1 hp1 => ?_)
    refine lv_icmp_eq (tgt := 465) hx hb d_law_434 (by decide) (fun k2 => ?_) (fun k2 => ?_)
    · exact J _ _ _ ⟨⟨F, π, S, T, J0, hRC, hRM, hI⟩, hl⟩
    · exact absurd (hp0.trans hp1.symm) k2
  · refine lv_tableIn (off := 387) (tgt := 439) hx hb d_law_52 (by omega) (by omega) (by rw [hx0]; rfl) (by decide) ?_
    refine lv_aload_n hx hb d_law_439 rfl (lv_at hl 2 rfl) ?_
    refine lw_ROi C hI (c_W_free G.1 hRC hWS.2.2.1) yv_W_free k_ml_L_85 rfl (by decide) rfl hl.1 rfl (Nat.le_of_ble_eq_true rfl) d_law_440 (by decide) (fun r0 hp0 => ?_)
    refine lv_aload_n hx hb d_law_443 rfl (lv_at hl 1 rfl) ?_
    refine lm_ROi C hI (c_M_free G.2.1 hRM hB) yv_M_free k_ml_L_88 rfl (by decide) rfl hl.1 rfl (Nat.le_of_ble_eq_true rfl) d_law_444 (by decide) (fun r1 hp1 => ?_)
    refine lv_icmp_eq (tgt := 465) hx hb d_law_447 (by decide) (fun k2 => ?_) (fun k2 => ?_)
    · exact J _ _ _ ⟨⟨F, π, S, T, J0, hRC, hRM, hI⟩, hl⟩
    · exact absurd (hp0.trans hp1.symm) k2
  · refine lv_tableIn (off := 400) (tgt := 452) hx hb d_law_52 (by omega) (by omega) (by rw [hx0]; rfl) (by decide) ?_
    refine lv_aload_n hx hb d_law_452 rfl (lv_at hl 2 rfl) ?_
    refine lw_ROi C hI (c_W_operations G.1 hRC.1) yv_W_operations k_ml_L_89 rfl (by decide) rfl hl.1 rfl (Nat.le_of_ble_eq_true rfl) d_law_453 (by decide) (fun r0 hp0 => ?_)
    refine lv_aload_n hx hb d_law_456 rfl (lv_at hl 1 rfl) ?_
    refine lm_ROi C hI (c_M_operations G.2.1 hRM) yv_M_operations k_ml_L_92 rfl (by decide) rfl hl.1 rfl (Nat.le_of_ble_eq_true rfl) d_law_457 (by decide) (fun r1 hp1 => ?_)
    refine lv_icmp_eq (tgt := 465) hx hb d_law_460 (by decide) (fun k2 => ?_) (fun k2 => ?_)
    · exact J _ _ _ ⟨⟨F, π, S, T, J0, hRC, hRM, hI⟩, hl⟩
    · exact absurd (hp0.trans hp1.symm) k2
end
section
set_option maxHeartbeats 4000000 in
theorem lw_walk (l : Launch) (b : Addr) (xs : List Int32) : MetFree l x (headSpec (Jvm.Cond.code x code maxLocals ret :: tables_1) room_1) (lw_P b xs) (fun _ _ _ _ _ => True) lw_Q := by
  refine MetFree.of_bodyS (code := code) (maxLocals := maxLocals) (ret := ret) (by decide) ?_ ?_
  · intro args s m h hn
    obtain ⟨meth, c, h1, h2, h3, h4, h5, h6, -, -⟩ := Cond.code_spec hn (atoms_spec (ws := Jvm.Cond.code x code maxLocals ret :: tables_1) h _ List.mem_cons_self)
    exact ⟨meth, c, h1, h2, h3, h4, h5, h6⟩
  · intro p e s m args below meth c s₁ B hml0 hP _
    obtain ⟨rfl, hx, hbd, hgv⟩ := hP
    obtain ⟨scr, harrAt, hlist, hof, hsmall⟩ := hx
    obtain ⟨hcb, hkn, -, -⟩ := State.arrayAt?_spec harrAt
    have hown : s.vm.findClass R_law = some m.cls := findClass_of_methodNamed B.named
    have hts0 : ∀ c ∈ (Jvm.Cond.code x code maxLocals ret :: tables_1), c.before #[Value.ref b] s = true := atoms_spec (ws := Jvm.Cond.code x code maxLocals ret :: tables_1) B.pre
    have hts : ∀ w ∈ lw_tbl, w.before #[Value.ref b] s = true := k2_hts_sels lw_privs (fun w hw => hts0 w (List.mem_cons_of_mem _ hw)) lw_privs_ok
    have hml : c.maxLocals = 4 := B.maxLocals_eq (hts0 _ List.mem_cons_self)
    have X₀ : Stand p l e room_1 s m #[Value.ref b] below meth c s₁ [] 0 0 := Stand.of_body B
    have hh0 : s₁.heap = s.heap := by rw [B.state]; rfl
    have hsz : scr.slots.size = xs.length := by rw [← Array.length_toList, hlist, List.length_map]
    have hval : ∀ j : Nat, j < xs.length → scr.slots[j]? = some (.int (xs.getD j 0)) := fun j hj => by
      rw [← Array.getElem?_toList, hlist]
      simp [hj]
    have hbl : b < s.heap.size := (Array.getElem?_eq_some_iff.mp hcb).1
    have hX : va_X b xs.length (fun j => xs.getD j 0) s s.heap := ⟨scr, hcb, hof, hkn, hsz, hval⟩
    have K : W p l e room_1 s m #[Value.ref b] below meth c s₁.heap [] 0 0 (lw_Z below #[Value.ref b] s) (entryFrame m ([Value.ref b] : List Value).toArray 4) := by
      rw [hh0]
      exact whole_start l hbd ⟨B.exec, B.bytes, B.returns, hml, hown, hts, hX, hbl, B.notSynchronized, hgv⟩
    obtain ⟨t, a1, o, b1, b2, b3⟩ := K s₁ rfl X₀
    exact ⟨t, o, a1, b1, b2, b3⟩
theorem lw_pre_spec {args : Array Value} {s : State} (h : (Jvm.Cond.and given_1 narrow_1).before args s = true) (hr : rest_1_c.before args s = true) : ∃ (b : Addr) (xs : List Int32), lw_P b xs args s := by
  have hs := flat_of_before _ h
  have hq := flat_of_before _ hr
  have hc : (Cond.count 1).before args s = true := hs _ (by decide +kernel)
  have harr : (Cond.arrayOf (.arg 0) .int).before args s = true := hs _ (by decide +kernel)
  have hle : (Cond.le (.length (.arg 0)) (.int 1538)).before args s = true := hs _ (by decide +kernel)
  have hlen : (Cond.isInt (.length (.arg 0))).before args s = true := hq _ (by decide +kernel)
  have hall : (Cond.all (.arg 0) (.isInt (.elem (.arg 0) (.index 0)))).before args s = true := hq _ (by decide +kernel)
  obtain ⟨b, xs, hb, hx⟩ := State.ints_of_pre rfl harr hlen hall
  have hsm : xs.length < 2 ^ 31 := hx.choose_spec.2.2.2
  have hev : (Term.length (.arg 0)).eval args s none [] s = some (.int xs.length.toInt32) := hx.length_eval hb
  have hv := Cond.le_ints hev (show (Term.int 1538).eval args s none [] s = some (.int 1538) from rfl)
  have hd : xs.length.toInt32 ≤ 1538 := by
    simpa [Cond.before, Cond.holds, hv] using hle
  have hN : xs.length ≤ 1538 := (Int32.ofNat_le_ofNat hsm (by decide)).mp (show Int32.ofNat xs.length ≤ Int32.ofNat 1538 from hd)
  exact ⟨b, xs, Cond.one_arg hc (show args[0]? = some (.ref b) from hb), hx, hN, h⟩
theorem lw_comes (l : Launch) : Comes l x (Jvm.Cond.code x code maxLocals ret :: tables_1) room_1 (fun tb e args s => Calls_1 tb e args s ∧ rest_1 tb e args s ∧ Pre_1 tb e args s)
    (fun _ _ args s o t => lw_Q args s o t) := by
  intro p e ha hc hk s m args below hf hfit hheap happ hpre
  obtain ⟨b, xs, hP⟩ := lw_pre_spec hpre.2.2 hpre.2.1
  obtain ⟨k, o, h1, h2, h3, hQ⟩ := lw_walk l b xs p e ha hc hk s m args below hf ((Spec.applies_iff_loose hf).mp happ).1 hP trivial
  exact ⟨k, o, h1, h2, h3, hQ⟩
theorem lw_frame {s t : State} {o : Outcome} {args : Array Value} (h : Framed s o t [] 600000 7302250) :
    Framed s o t (fieldLocs frame_1_writes args s ++ arrayLocs frame_1_arrays args s ++ staticLocs frame_1_statics s) 600000 7302250 := h
theorem lw_limb (L : Cond) (hL : ∀ (args : Array Value) (s t : State), L.after args s (.returned (some (.int 1))) t = true) :
    ArmFor flags0 classFile x code maxLocals ret World_1 tables_1 room_1 Calls_1 rest_1 Pre_1
      (fun tb e a s o t => postC L tb e a s o t ∧ Framed s o t (fieldLocs frame_1_writes a s ++ arrayLocs frame_1_arrays a s ++ staticLocs frame_1_statics s) 600000 7302250) := by
  intro l _ _ _ p e ha hc hk s m args below hf hfit hheap happ hpre
  obtain ⟨k, o, h1, h2, h3, rfl, hF⟩ := lw_comes l p e ha hc hk s m args below hf hfit hheap happ hpre
  exact ⟨k, _, h1, h2, h3, hL args s _, lw_frame hF⟩
theorem i_vc : Claimed_1_1 ∧ Claimed_1_2 := ⟨lw_limb limb_1_1 (fun args s t => by simp [limb_1_1, Cond.after, Cond.holds, Cond.value]), lw_limb limb_1_2 (fun args s t => Cond.after_iff.mpr (by
  first | (rw [show limb_1_2 = Cond.eq .result (.int 1) from rfl, Cond.eq_ints (x := 1) (y := 1) rfl rfl]; simp; done) | (simp [limb_1_2, Cond.value, Term.eval]; done)))⟩
end
