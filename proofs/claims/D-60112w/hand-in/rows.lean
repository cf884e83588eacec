section
-- ===== PART A: goes FIRST, ahead of the names: the tables' words, and 'selects' of the private methods out of them =====
/-- a private method of a class that the tables say can be made, by its rows of tables_1 -/
def lw_okq (q : MethodName × Nat) : Prop := (q.1.cls ≠ "java/lang/invoke/MethodHandle" ∧ q.1.cls ≠ "java/lang/invoke/VarHandle") ∧ Cond.instantiable q.1.cls q.2 ∈ tables_1 ∧ Cond.privateMethod q.1 ∈ tables_1 ∧ Cond.instanceMethod q.1 ∈ tables_1
theorem lw_p0 : lw_okq (⟨"DetourHooker", "append", "(III)I"⟩, 16) := ⟨⟨by decide +kernel, by decide +kernel⟩, List.mem_of_getElem? (i := 4) (by decide +kernel), List.mem_of_getElem? (i := 67) (by decide +kernel), List.mem_of_getElem? (i := 68) (by decide +kernel)⟩
theorem lw_p1 : lw_okq (⟨"DetourHooker", "lengthOf", "(I)I"⟩, 16) := ⟨⟨by decide +kernel, by decide +kernel⟩, List.mem_of_getElem? (i := 4) (by decide +kernel), List.mem_of_getElem? (i := 75) (by decide +kernel), List.mem_of_getElem? (i := 76) (by decide +kernel)⟩
theorem lw_p2 : lw_okq (⟨"DetourHooker", "emit", "(I)V"⟩, 16) := ⟨⟨by decide +kernel, by decide +kernel⟩, List.mem_of_getElem? (i := 4) (by decide +kernel), List.mem_of_getElem? (i := 79) (by decide +kernel), List.mem_of_getElem? (i := 80) (by decide +kernel)⟩
theorem lw_p3 : lw_okq (⟨"DetourHooker", "badReg", "(I)Z"⟩, 16) := ⟨⟨by decide +kernel, by decide +kernel⟩, List.mem_of_getElem? (i := 4) (by decide +kernel), List.mem_of_getElem? (i := 87) (by decide +kernel), List.mem_of_getElem? (i := 88) (by decide +kernel)⟩
theorem lw_p4 : lw_okq (⟨"DetourHooker", "badTarget", "(I)Z"⟩, 16) := ⟨⟨by decide +kernel, by decide +kernel⟩, List.mem_of_getElem? (i := 4) (by decide +kernel), List.mem_of_getElem? (i := 103) (by decide +kernel), List.mem_of_getElem? (i := 104) (by decide +kernel)⟩
theorem lw_p5 : lw_okq (⟨"DetourHooker", "asByte", "(I)I"⟩, 16) := ⟨⟨by decide +kernel, by decide +kernel⟩, List.mem_of_getElem? (i := 4) (by decide +kernel), List.mem_of_getElem? (i := 107) (by decide +kernel), List.mem_of_getElem? (i := 108) (by decide +kernel)⟩
theorem lw_p6 : lw_okq (⟨"DetourHooker", "slotOf", "(I)I"⟩, 16) := ⟨⟨by decide +kernel, by decide +kernel⟩, List.mem_of_getElem? (i := 4) (by decide +kernel), List.mem_of_getElem? (i := 151) (by decide +kernel), List.mem_of_getElem? (i := 152) (by decide +kernel)⟩
theorem lw_p7 : lw_okq (⟨"DetourHooker", "isStart", "(I)Z"⟩, 16) := ⟨⟨by decide +kernel, by decide +kernel⟩, List.mem_of_getElem? (i := 4) (by decide +kernel), List.mem_of_getElem? (i := 155) (by decide +kernel), List.mem_of_getElem? (i := 156) (by decide +kernel)⟩
theorem lw_p8 : lw_okq (⟨"DetourHooker", "headOf", "(I)I"⟩, 16) := ⟨⟨by decide +kernel, by decide +kernel⟩, List.mem_of_getElem? (i := 4) (by decide +kernel), List.mem_of_getElem? (i := 159) (by decide +kernel), List.mem_of_getElem? (i := 160) (by decide +kernel)⟩
theorem lw_p9 : lw_okq (⟨"DetourHooker", "meetsHead", "(II)Z"⟩, 16) := ⟨⟨by decide +kernel, by decide +kernel⟩, List.mem_of_getElem? (i := 4) (by decide +kernel), List.mem_of_getElem? (i := 163) (by decide +kernel), List.mem_of_getElem? (i := 164) (by decide +kernel)⟩
theorem lw_p10 : lw_okq (⟨"DetourHooker", "aimedInside", "(II)Z"⟩, 16) := ⟨⟨by decide +kernel, by decide +kernel⟩, List.mem_of_getElem? (i := 4) (by decide +kernel), List.mem_of_getElem? (i := 167) (by decide +kernel), List.mem_of_getElem? (i := 168) (by decide +kernel)⟩
theorem lw_p11 : lw_okq (⟨"DetourHooker", "targetOf", "(I)I"⟩, 16) := ⟨⟨by decide +kernel, by decide +kernel⟩, List.mem_of_getElem? (i := 4) (by decide +kernel), List.mem_of_getElem? (i := 171) (by decide +kernel), List.mem_of_getElem? (i := 172) (by decide +kernel)⟩
theorem lw_p12 : lw_okq (⟨"DetourHooker", "displace", "(III)V"⟩, 16) := ⟨⟨by decide +kernel, by decide +kernel⟩, List.mem_of_getElem? (i := 4) (by decide +kernel), List.mem_of_getElem? (i := 175) (by decide +kernel), List.mem_of_getElem? (i := 176) (by decide +kernel)⟩
theorem lw_p13 : lw_okq (⟨"DetourHooker", "put", "(I)V"⟩, 16) := ⟨⟨by decide +kernel, by decide +kernel⟩, List.mem_of_getElem? (i := 4) (by decide +kernel), List.mem_of_getElem? (i := 179) (by decide +kernel), List.mem_of_getElem? (i := 180) (by decide +kernel)⟩
theorem lw_p14 : lw_okq (⟨"DetourHooker", "relocate", "(I)V"⟩, 16) := ⟨⟨by decide +kernel, by decide +kernel⟩, List.mem_of_getElem? (i := 4) (by decide +kernel), List.mem_of_getElem? (i := 183) (by decide +kernel), List.mem_of_getElem? (i := 184) (by decide +kernel)⟩
theorem lw_p15 : lw_okq (⟨"DetourHooker", "putAddress", "(I)V"⟩, 16) := ⟨⟨by decide +kernel, by decide +kernel⟩, List.mem_of_getElem? (i := 4) (by decide +kernel), List.mem_of_getElem? (i := 187) (by decide +kernel), List.mem_of_getElem? (i := 188) (by decide +kernel)⟩
def lw_privs_1 : List (MethodName × Nat) := [(⟨"DetourHooker", "append", "(III)I"⟩, 16), (⟨"DetourHooker", "lengthOf", "(I)I"⟩, 16), (⟨"DetourHooker", "emit", "(I)V"⟩, 16), (⟨"DetourHooker", "badReg", "(I)Z"⟩, 16), (⟨"DetourHooker", "badTarget", "(I)Z"⟩, 16), (⟨"DetourHooker", "asByte", "(I)I"⟩, 16), (⟨"DetourHooker", "slotOf", "(I)I"⟩, 16), (⟨"DetourHooker", "isStart", "(I)Z"⟩, 16), (⟨"DetourHooker", "headOf", "(I)I"⟩, 16), (⟨"DetourHooker", "meetsHead", "(II)Z"⟩, 16), (⟨"DetourHooker", "aimedInside", "(II)Z"⟩, 16), (⟨"DetourHooker", "targetOf", "(I)I"⟩, 16), (⟨"DetourHooker", "displace", "(III)V"⟩, 16), (⟨"DetourHooker", "put", "(I)V"⟩, 16), (⟨"DetourHooker", "relocate", "(I)V"⟩, 16), (⟨"DetourHooker", "putAddress", "(I)V"⟩, 16)]
theorem lw_r1 : ∀ q ∈ lw_privs_1, lw_okq q := List.forall_mem_cons.mpr ⟨lw_p0, List.forall_mem_cons.mpr ⟨lw_p1, List.forall_mem_cons.mpr ⟨lw_p2, List.forall_mem_cons.mpr ⟨lw_p3, List.forall_mem_cons.mpr ⟨lw_p4, List.forall_mem_cons.mpr ⟨lw_p5, List.forall_mem_cons.mpr ⟨lw_p6, List.forall_mem_cons.mpr ⟨lw_p7, List.forall_mem_cons.mpr ⟨lw_p8, List.forall_mem_cons.mpr ⟨lw_p9, List.forall_mem_cons.mpr ⟨lw_p10, List.forall_mem_cons.mpr ⟨lw_p11, List.forall_mem_cons.mpr ⟨lw_p12, List.forall_mem_cons.mpr ⟨lw_p13, List.forall_mem_cons.mpr ⟨lw_p14, List.forall_mem_cons.mpr ⟨lw_p15, fun _ h => absurd h List.not_mem_nil⟩⟩⟩⟩⟩⟩⟩⟩⟩⟩⟩⟩⟩⟩⟩⟩
theorem lw_p16 : lw_okq (⟨"DetourHooker", "overwrite", "(III)V"⟩, 16) := ⟨⟨by decide +kernel, by decide +kernel⟩, List.mem_of_getElem? (i := 4) (by decide +kernel), List.mem_of_getElem? (i := 191) (by decide +kernel), List.mem_of_getElem? (i := 192) (by decide +kernel)⟩
theorem lw_p17 : lw_okq (⟨"DetourHooker", "entry", "(I)I"⟩, 16) := ⟨⟨by decide +kernel, by decide +kernel⟩, List.mem_of_getElem? (i := 4) (by decide +kernel), List.mem_of_getElem? (i := 208) (by decide +kernel), List.mem_of_getElem? (i := 209) (by decide +kernel)⟩
theorem lw_p18 : lw_okq (⟨"DetourHooker", "execute", "()V"⟩, 16) := ⟨⟨by decide +kernel, by decide +kernel⟩, List.mem_of_getElem? (i := 4) (by decide +kernel), List.mem_of_getElem? (i := 212) (by decide +kernel), List.mem_of_getElem? (i := 213) (by decide +kernel)⟩
theorem lw_p19 : lw_okq (⟨"DetourHooker", "fetch", "(I)I"⟩, 16) := ⟨⟨by decide +kernel, by decide +kernel⟩, List.mem_of_getElem? (i := 4) (by decide +kernel), List.mem_of_getElem? (i := 216) (by decide +kernel), List.mem_of_getElem? (i := 217) (by decide +kernel)⟩
theorem lw_p20 : lw_okq (⟨"DetourHooker", "fetchAddress", "(I)I"⟩, 16) := ⟨⟨by decide +kernel, by decide +kernel⟩, List.mem_of_getElem? (i := 4) (by decide +kernel), List.mem_of_getElem? (i := 220) (by decide +kernel), List.mem_of_getElem? (i := 221) (by decide +kernel)⟩
theorem lw_p21 : lw_okq (⟨"DetourHooker", "executeFar", "(I)V"⟩, 16) := ⟨⟨by decide +kernel, by decide +kernel⟩, List.mem_of_getElem? (i := 4) (by decide +kernel), List.mem_of_getElem? (i := 224) (by decide +kernel), List.mem_of_getElem? (i := 225) (by decide +kernel)⟩
theorem lw_p22 : lw_okq (⟨"DetourHooker", "enter", "(II)V"⟩, 16) := ⟨⟨by decide +kernel, by decide +kernel⟩, List.mem_of_getElem? (i := 4) (by decide +kernel), List.mem_of_getElem? (i := 228) (by decide +kernel), List.mem_of_getElem? (i := 229) (by decide +kernel)⟩
theorem lw_p23 : lw_okq (⟨"DetourHooker", "executePlain", "(I)V"⟩, 16) := ⟨⟨by decide +kernel, by decide +kernel⟩, List.mem_of_getElem? (i := 4) (by decide +kernel), List.mem_of_getElem? (i := 232) (by decide +kernel), List.mem_of_getElem? (i := 233) (by decide +kernel)⟩
theorem lw_p24 : lw_okq (⟨"DetourHooker", "leave", "()V"⟩, 16) := ⟨⟨by decide +kernel, by decide +kernel⟩, List.mem_of_getElem? (i := 4) (by decide +kernel), List.mem_of_getElem? (i := 236) (by decide +kernel), List.mem_of_getElem? (i := 237) (by decide +kernel)⟩
theorem lw_p25 : lw_okq (⟨"DetourHooker", "signed", "(I)I"⟩, 16) := ⟨⟨by decide +kernel, by decide +kernel⟩, List.mem_of_getElem? (i := 4) (by decide +kernel), List.mem_of_getElem? (i := 240) (by decide +kernel), List.mem_of_getElem? (i := 241) (by decide +kernel)⟩
theorem lw_p26 : lw_okq (⟨"DetourHooker", "change", "(IIII)V"⟩, 16) := ⟨⟨by decide +kernel, by decide +kernel⟩, List.mem_of_getElem? (i := 4) (by decide +kernel), List.mem_of_getElem? (i := 244) (by decide +kernel), List.mem_of_getElem? (i := 245) (by decide +kernel)⟩
theorem lw_p27 : lw_okq (⟨"DetourHookerModel", "append", "(IIII)I"⟩, 11) := ⟨⟨by decide +kernel, by decide +kernel⟩, List.mem_of_getElem? (i := 256) (by decide +kernel), List.mem_of_getElem? (i := 300) (by decide +kernel), List.mem_of_getElem? (i := 301) (by decide +kernel)⟩
theorem lw_p28 : lw_okq (⟨"DetourHookerModel", "isRegister", "(I)Z"⟩, 11) := ⟨⟨by decide +kernel, by decide +kernel⟩, List.mem_of_getElem? (i := 256) (by decide +kernel), List.mem_of_getElem? (i := 312) (by decide +kernel), List.mem_of_getElem? (i := 313) (by decide +kernel)⟩
theorem lw_p29 : lw_okq (⟨"DetourHookerModel", "isTarget", "(I)Z"⟩, 11) := ⟨⟨by decide +kernel, by decide +kernel⟩, List.mem_of_getElem? (i := 256) (by decide +kernel), List.mem_of_getElem? (i := 328) (by decide +kernel), List.mem_of_getElem? (i := 329) (by decide +kernel)⟩
theorem lw_p30 : lw_okq (⟨"DetourHookerModel", "headOf", "(I)I"⟩, 11) := ⟨⟨by decide +kernel, by decide +kernel⟩, List.mem_of_getElem? (i := 256) (by decide +kernel), List.mem_of_getElem? (i := 372) (by decide +kernel), List.mem_of_getElem? (i := 373) (by decide +kernel)⟩
theorem lw_p31 : lw_okq (⟨"DetourHookerModel", "starts", "(I)Z"⟩, 11) := ⟨⟨by decide +kernel, by decide +kernel⟩, List.mem_of_getElem? (i := 256) (by decide +kernel), List.mem_of_getElem? (i := 376) (by decide +kernel), List.mem_of_getElem? (i := 377) (by decide +kernel)⟩
def lw_privs_2 : List (MethodName × Nat) := [(⟨"DetourHooker", "overwrite", "(III)V"⟩, 16), (⟨"DetourHooker", "entry", "(I)I"⟩, 16), (⟨"DetourHooker", "execute", "()V"⟩, 16), (⟨"DetourHooker", "fetch", "(I)I"⟩, 16), (⟨"DetourHooker", "fetchAddress", "(I)I"⟩, 16), (⟨"DetourHooker", "executeFar", "(I)V"⟩, 16), (⟨"DetourHooker", "enter", "(II)V"⟩, 16), (⟨"DetourHooker", "executePlain", "(I)V"⟩, 16), (⟨"DetourHooker", "leave", "()V"⟩, 16), (⟨"DetourHooker", "signed", "(I)I"⟩, 16), (⟨"DetourHooker", "change", "(IIII)V"⟩, 16), (⟨"DetourHookerModel", "append", "(IIII)I"⟩, 11), (⟨"DetourHookerModel", "isRegister", "(I)Z"⟩, 11), (⟨"DetourHookerModel", "isTarget", "(I)Z"⟩, 11), (⟨"DetourHookerModel", "headOf", "(I)I"⟩, 11), (⟨"DetourHookerModel", "starts", "(I)Z"⟩, 11)]
theorem lw_r2 : ∀ q ∈ lw_privs_2, lw_okq q := List.forall_mem_cons.mpr ⟨lw_p16, List.forall_mem_cons.mpr ⟨lw_p17, List.forall_mem_cons.mpr ⟨lw_p18, List.forall_mem_cons.mpr ⟨lw_p19, List.forall_mem_cons.mpr ⟨lw_p20, List.forall_mem_cons.mpr ⟨lw_p21, List.forall_mem_cons.mpr ⟨lw_p22, List.forall_mem_cons.mpr ⟨lw_p23, List.forall_mem_cons.mpr ⟨lw_p24, List.forall_mem_cons.mpr ⟨lw_p25, List.forall_mem_cons.mpr ⟨lw_p26, List.forall_mem_cons.mpr ⟨lw_p27, List.forall_mem_cons.mpr ⟨lw_p28, List.forall_mem_cons.mpr ⟨lw_p29, List.forall_mem_cons.mpr ⟨lw_p30, List.forall_mem_cons.mpr ⟨lw_p31, fun _ h => absurd h List.not_mem_nil⟩⟩⟩⟩⟩⟩⟩⟩⟩⟩⟩⟩⟩⟩⟩⟩
theorem lw_p32 : lw_okq (⟨"DetourHookerModel", "nextOf", "(I)I"⟩, 11) := ⟨⟨by decide +kernel, by decide +kernel⟩, List.mem_of_getElem? (i := 256) (by decide +kernel), List.mem_of_getElem? (i := 380) (by decide +kernel), List.mem_of_getElem? (i := 381) (by decide +kernel)⟩
theorem lw_p33 : lw_okq (⟨"DetourHookerModel", "overlaps", "(II)Z"⟩, 11) := ⟨⟨by decide +kernel, by decide +kernel⟩, List.mem_of_getElem? (i := 256) (by decide +kernel), List.mem_of_getElem? (i := 384) (by decide +kernel), List.mem_of_getElem? (i := 385) (by decide +kernel)⟩
theorem lw_p34 : lw_okq (⟨"DetourHookerModel", "isEntered", "(II)Z"⟩, 11) := ⟨⟨by decide +kernel, by decide +kernel⟩, List.mem_of_getElem? (i := 256) (by decide +kernel), List.mem_of_getElem? (i := 388) (by decide +kernel), List.mem_of_getElem? (i := 389) (by decide +kernel)⟩
theorem lw_p35 : lw_okq (⟨"DetourHookerModel", "targetOf", "(I)I"⟩, 11) := ⟨⟨by decide +kernel, by decide +kernel⟩, List.mem_of_getElem? (i := 256) (by decide +kernel), List.mem_of_getElem? (i := 392) (by decide +kernel), List.mem_of_getElem? (i := 393) (by decide +kernel)⟩
theorem lw_p36 : lw_okq (⟨"DetourHookerModel", "execute", "()V"⟩, 11) := ⟨⟨by decide +kernel, by decide +kernel⟩, List.mem_of_getElem? (i := 256) (by decide +kernel), List.mem_of_getElem? (i := 409) (by decide +kernel), List.mem_of_getElem? (i := 410) (by decide +kernel)⟩
theorem lw_p37 : lw_okq (⟨"DetourHookerModel", "goOn", "(II)V"⟩, 11) := ⟨⟨by decide +kernel, by decide +kernel⟩, List.mem_of_getElem? (i := 256) (by decide +kernel), List.mem_of_getElem? (i := 413) (by decide +kernel), List.mem_of_getElem? (i := 414) (by decide +kernel)⟩
def lw_privs_3 : List (MethodName × Nat) := [(⟨"DetourHookerModel", "nextOf", "(I)I"⟩, 11), (⟨"DetourHookerModel", "overlaps", "(II)Z"⟩, 11), (⟨"DetourHookerModel", "isEntered", "(II)Z"⟩, 11), (⟨"DetourHookerModel", "targetOf", "(I)I"⟩, 11), (⟨"DetourHookerModel", "execute", "()V"⟩, 11), (⟨"DetourHookerModel", "goOn", "(II)V"⟩, 11)]
theorem lw_r3 : ∀ q ∈ lw_privs_3, lw_okq q := List.forall_mem_cons.mpr ⟨lw_p32, List.forall_mem_cons.mpr ⟨lw_p33, List.forall_mem_cons.mpr ⟨lw_p34, List.forall_mem_cons.mpr ⟨lw_p35, List.forall_mem_cons.mpr ⟨lw_p36, List.forall_mem_cons.mpr ⟨lw_p37, fun _ h => absurd h List.not_mem_nil⟩⟩⟩⟩⟩⟩
def lw_privs : List (MethodName × Nat) := lw_privs_1 ++ (lw_privs_2 ++ (lw_privs_3))
def lw_tbl : List Cond := k2_sels lw_privs ++ tables_1
theorem lw_privs_ok : ∀ q ∈ lw_privs, lw_okq q := by
  show ∀ q ∈ lw_privs_1 ++ (lw_privs_2 ++ (lw_privs_3)), lw_okq q
  exact List.forall_mem_append.mpr ⟨lw_r1, List.forall_mem_append.mpr ⟨lw_r2, lw_r3⟩⟩
end
section
/-- the words of the tables that keep -/
def tb : List Cond := lw_tbl.filter goodWord
theorem tb_of {w : Cond} (h : w ∈ lw_tbl) (hg : goodWord w = true) : w ∈ tb := List.mem_filter.mpr ⟨h, hg⟩
def R_H : String := "DetourHooker"
def F_H : u_T := fun k => match k with
  | 0 => ("DetourHooker", "length", "I", false)
  | 1 => ("DetourHooker", "plain", "[I", true)
  | 2 => ("DetourHooker", "code", "[I", true)
  | 3 => ("DetourHooker", "starts", "[Z", true)
  | 4 => ("DetourHooker", "moved", "[I", true)
  | 5 => ("DetourHooker", "area", "[I", true)
  | 6 => ("DetourHooker", "writeAt", "I", false)
  | 7 => ("DetourHooker", "hookAt", "[I", true)
  | 8 => ("DetourHooker", "headLength", "[I", true)
  | 9 => ("DetourHooker", "count", "[I", true)
  | 10 => ("DetourHooker", "reg", "[I", true)
  | 11 => ("DetourHooker", "stacked", "I", false)
  | 12 => ("DetourHooker", "stack", "[I", true)
  | 13 => ("DetourHooker", "pc", "I", false)
  | 14 => ("DetourHooker", "done", "I", false)
  | _ => ("DetourHooker", "end", "I", false)
def t_H : Nat → FieldType := fun k => match k with
  | 0 => .int
  | 1 => .array .int
  | 2 => .array .int
  | 3 => .array .boolean
  | 4 => .array .int
  | 5 => .array .int
  | 6 => .int
  | 7 => .array .int
  | 8 => .array .int
  | 9 => .array .int
  | 10 => .array .int
  | 11 => .int
  | 12 => .array .int
  | 13 => .int
  | 14 => .int
  | _ => .int
theorem n_H : ∀ a, a < 16 → ∀ b, b < 16 → a ≠ b → (F_H a).2.1 ≠ (F_H b).2.1 := by decide +kernel
theorem t_H_ok : ∀ k, k < 16 → parseFieldDescriptor (F_H k).2.2.1 = some (t_H k) := by decide +kernel
theorem i_H : ∀ w ∈ u_ws R_H F_H 16, w ∈ tb := by decide +kernel
def R_M : String := "DetourHookerModel"
def F_M : u_T := fun k => match k with
  | 0 => ("DetourHookerModel", "code", "[I", true)
  | 1 => ("DetourHookerModel", "begins", "[Z", true)
  | 2 => ("DetourHookerModel", "length", "I", false)
  | 3 => ("DetourHookerModel", "registers", "[I", true)
  | 4 => ("DetourHookerModel", "hooked", "[Z", true)
  | 5 => ("DetourHookerModel", "count", "[I", true)
  | 6 => ("DetourHookerModel", "returns", "[I", true)
  | 7 => ("DetourHookerModel", "held", "I", false)
  | 8 => ("DetourHookerModel", "at", "I", false)
  | 9 => ("DetourHookerModel", "ending", "I", false)
  | _ => ("DetourHookerModel", "executed", "I", false)
def t_M : Nat → FieldType := fun k => match k with
  | 0 => .array .int
  | 1 => .array .boolean
  | 2 => .int
  | 3 => .array .int
  | 4 => .array .boolean
  | 5 => .array .int
  | 6 => .array .int
  | 7 => .int
  | 8 => .int
  | 9 => .int
  | _ => .int
theorem n_M : ∀ a, a < 11 → ∀ b, b < 11 → a ≠ b → (F_M a).2.1 ≠ (F_M b).2.1 := by decide +kernel
theorem t_M_ok : ∀ k, k < 11 → parseFieldDescriptor (F_M k).2.2.1 = some (t_M k) := by decide +kernel
theorem i_M : ∀ w ∈ u_ws R_M F_M 11, w ∈ tb := by decide +kernel
abbrev classes : List vw_C := [(R_H, F_H, 16), (R_M, F_M, 11)]
-- methods: code and name
abbrev b_H_init : ByteArray := prog_1_method_1_code
def y_H_init : MethodName := ⟨"DetourHooker", "<init>", "()V"⟩
abbrev b_H_halt : ByteArray := prog_1_method_8_code
def y_H_halt : MethodName := ⟨"DetourHooker", "halt", "()I"⟩
abbrev b_H_append : ByteArray := prog_1_method_5_code
def y_H_append : MethodName := ⟨"DetourHooker", "append", "(III)I"⟩
abbrev b_H_hooks : ByteArray := prog_1_method_36_code
def y_H_hooks : MethodName := ⟨"DetourHooker", "hooks", "()I"⟩
abbrev b_H_lengthOf : ByteArray := prog_1_method_4_code
def y_H_lengthOf : MethodName := ⟨"DetourHooker", "lengthOf", "(I)I"⟩
abbrev b_H_emit : ByteArray := prog_1_method_6_code
def y_H_emit : MethodName := ⟨"DetourHooker", "emit", "(I)V"⟩
abbrev b_H_inc : ByteArray := prog_1_method_9_code
def y_H_inc : MethodName := ⟨"DetourHooker", "inc", "(I)I"⟩
abbrev b_H_badReg : ByteArray := prog_1_method_2_code
def y_H_badReg : MethodName := ⟨"DetourHooker", "badReg", "(I)Z"⟩
abbrev b_H_dec : ByteArray := prog_1_method_10_code
def y_H_dec : MethodName := ⟨"DetourHooker", "dec", "(I)I"⟩
abbrev b_H_move : ByteArray := prog_1_method_11_code
def y_H_move : MethodName := ⟨"DetourHooker", "move", "(II)I"⟩
abbrev b_H_jump : ByteArray := prog_1_method_12_code
def y_H_jump : MethodName := ⟨"DetourHooker", "jump", "(I)I"⟩
abbrev b_H_badTarget : ByteArray := prog_1_method_3_code
def y_H_badTarget : MethodName := ⟨"DetourHooker", "badTarget", "(I)Z"⟩
abbrev b_H_asByte : ByteArray := prog_1_method_7_code
def y_H_asByte : MethodName := ⟨"DetourHooker", "asByte", "(I)I"⟩
abbrev b_H_branch : ByteArray := prog_1_method_13_code
def y_H_branch : MethodName := ⟨"DetourHooker", "branch", "(II)I"⟩
abbrev b_H_call : ByteArray := prog_1_method_14_code
def y_H_call : MethodName := ⟨"DetourHooker", "call", "(I)I"⟩
abbrev b_H_giveBack : ByteArray := prog_1_method_15_code
def y_H_giveBack : MethodName := ⟨"DetourHooker", "giveBack", "()I"⟩
abbrev b_H_where : ByteArray := prog_1_method_16_code
def y_H_where : MethodName := ⟨"DetourHooker", "where", "(I)I"⟩
abbrev b_H_length : ByteArray := prog_1_method_17_code
def y_H_length : MethodName := ⟨"DetourHooker", "length", "()I"⟩
abbrev b_H_peek : ByteArray := prog_1_method_18_code
def y_H_peek : MethodName := ⟨"DetourHooker", "peek", "(I)I"⟩
abbrev b_H_clear : ByteArray := prog_1_method_19_code
def y_H_clear : MethodName := ⟨"DetourHooker", "clear", "()I"⟩
abbrev b_H_setRegister : ByteArray := prog_1_method_20_code
def y_H_setRegister : MethodName := ⟨"DetourHooker", "setRegister", "(II)I"⟩
abbrev b_H_register : ByteArray := prog_1_method_21_code
def y_H_register : MethodName := ⟨"DetourHooker", "register", "(I)I"⟩
abbrev b_H_hook : ByteArray := prog_1_method_28_code
def y_H_hook : MethodName := ⟨"DetourHooker", "hook", "(I)I"⟩
abbrev b_H_slotOf : ByteArray := prog_1_method_22_code
def y_H_slotOf : MethodName := ⟨"DetourHooker", "slotOf", "(I)I"⟩
abbrev b_H_isStart : ByteArray := prog_1_method_27_code
def y_H_isStart : MethodName := ⟨"DetourHooker", "isStart", "(I)Z"⟩
abbrev b_H_headOf : ByteArray := prog_1_method_23_code
def y_H_headOf : MethodName := ⟨"DetourHooker", "headOf", "(I)I"⟩
abbrev b_H_meetsHead : ByteArray := prog_1_method_24_code
def y_H_meetsHead : MethodName := ⟨"DetourHooker", "meetsHead", "(II)Z"⟩
abbrev b_H_aimedInside : ByteArray := prog_1_method_26_code
def y_H_aimedInside : MethodName := ⟨"DetourHooker", "aimedInside", "(II)Z"⟩
abbrev b_H_targetOf : ByteArray := prog_1_method_25_code
def y_H_targetOf : MethodName := ⟨"DetourHooker", "targetOf", "(I)I"⟩
abbrev b_H_displace : ByteArray := prog_1_method_31_code
def y_H_displace : MethodName := ⟨"DetourHooker", "displace", "(III)V"⟩
abbrev b_H_put : ByteArray := prog_1_method_29_code
def y_H_put : MethodName := ⟨"DetourHooker", "put", "(I)V"⟩
abbrev b_H_relocate : ByteArray := prog_1_method_32_code
def y_H_relocate : MethodName := ⟨"DetourHooker", "relocate", "(I)V"⟩
abbrev b_H_putAddress : ByteArray := prog_1_method_30_code
def y_H_putAddress : MethodName := ⟨"DetourHooker", "putAddress", "(I)V"⟩
abbrev b_H_overwrite : ByteArray := prog_1_method_33_code
def y_H_overwrite : MethodName := ⟨"DetourHooker", "overwrite", "(III)V"⟩
abbrev b_H_unhook : ByteArray := prog_1_method_34_code
def y_H_unhook : MethodName := ⟨"DetourHooker", "unhook", "(I)I"⟩
abbrev b_H_calls : ByteArray := prog_1_method_35_code
def y_H_calls : MethodName := ⟨"DetourHooker", "calls", "(I)I"⟩
abbrev b_H_run : ByteArray := prog_1_method_40_code
def y_H_run : MethodName := ⟨"DetourHooker", "run", "(I)I"⟩
abbrev b_H_entry : ByteArray := prog_1_method_39_code
def y_H_entry : MethodName := ⟨"DetourHooker", "entry", "(I)I"⟩
abbrev b_H_execute : ByteArray := prog_1_method_41_code
def y_H_execute : MethodName := ⟨"DetourHooker", "execute", "()V"⟩
abbrev b_H_fetch : ByteArray := prog_1_method_37_code
def y_H_fetch : MethodName := ⟨"DetourHooker", "fetch", "(I)I"⟩
abbrev b_H_fetchAddress : ByteArray := prog_1_method_38_code
def y_H_fetchAddress : MethodName := ⟨"DetourHooker", "fetchAddress", "(I)I"⟩
abbrev b_H_executeFar : ByteArray := prog_1_method_42_code
def y_H_executeFar : MethodName := ⟨"DetourHooker", "executeFar", "(I)V"⟩
abbrev b_H_enter : ByteArray := prog_1_method_43_code
def y_H_enter : MethodName := ⟨"DetourHooker", "enter", "(II)V"⟩
abbrev b_H_executePlain : ByteArray := prog_1_method_44_code
def y_H_executePlain : MethodName := ⟨"DetourHooker", "executePlain", "(I)V"⟩
abbrev b_H_leave : ByteArray := prog_1_method_47_code
def y_H_leave : MethodName := ⟨"DetourHooker", "leave", "()V"⟩
abbrev b_H_signed : ByteArray := prog_1_method_45_code
def y_H_signed : MethodName := ⟨"DetourHooker", "signed", "(I)I"⟩
abbrev b_H_change : ByteArray := prog_1_method_46_code
def y_H_change : MethodName := ⟨"DetourHooker", "change", "(IIII)V"⟩
abbrev b_H_ending : ByteArray := prog_1_method_48_code
def y_H_ending : MethodName := ⟨"DetourHooker", "ending", "()I"⟩
abbrev b_H_executed : ByteArray := prog_1_method_49_code
def y_H_executed : MethodName := ⟨"DetourHooker", "executed", "()I"⟩
abbrev b_M_init : ByteArray := prog_3_method_1_code
def y_M_init : MethodName := ⟨"DetourHookerModel", "<init>", "()V"⟩
abbrev b_M_halt : ByteArray := prog_3_method_5_code
def y_M_halt : MethodName := ⟨"DetourHookerModel", "halt", "()I"⟩
abbrev b_M_append : ByteArray := prog_3_method_4_code
def y_M_append : MethodName := ⟨"DetourHookerModel", "append", "(IIII)I"⟩
abbrev b_M_hooks : ByteArray := prog_3_method_28_code
def y_M_hooks : MethodName := ⟨"DetourHookerModel", "hooks", "()I"⟩
abbrev b_M_inc : ByteArray := prog_3_method_6_code
def y_M_inc : MethodName := ⟨"DetourHookerModel", "inc", "(I)I"⟩
abbrev b_M_isRegister : ByteArray := prog_3_method_2_code
def y_M_isRegister : MethodName := ⟨"DetourHookerModel", "isRegister", "(I)Z"⟩
abbrev b_M_dec : ByteArray := prog_3_method_7_code
def y_M_dec : MethodName := ⟨"DetourHookerModel", "dec", "(I)I"⟩
abbrev b_M_move : ByteArray := prog_3_method_8_code
def y_M_move : MethodName := ⟨"DetourHookerModel", "move", "(II)I"⟩
abbrev b_M_jump : ByteArray := prog_3_method_9_code
def y_M_jump : MethodName := ⟨"DetourHookerModel", "jump", "(I)I"⟩
abbrev b_M_isTarget : ByteArray := prog_3_method_3_code
def y_M_isTarget : MethodName := ⟨"DetourHookerModel", "isTarget", "(I)Z"⟩
abbrev b_M_branch : ByteArray := prog_3_method_10_code
def y_M_branch : MethodName := ⟨"DetourHookerModel", "branch", "(II)I"⟩
abbrev b_M_call : ByteArray := prog_3_method_11_code
def y_M_call : MethodName := ⟨"DetourHookerModel", "call", "(I)I"⟩
abbrev b_M_giveBack : ByteArray := prog_3_method_12_code
def y_M_giveBack : MethodName := ⟨"DetourHookerModel", "giveBack", "()I"⟩
abbrev b_M_where : ByteArray := prog_3_method_13_code
def y_M_where : MethodName := ⟨"DetourHookerModel", "where", "(I)I"⟩
abbrev b_M_length : ByteArray := prog_3_method_14_code
def y_M_length : MethodName := ⟨"DetourHookerModel", "length", "()I"⟩
abbrev b_M_peek : ByteArray := prog_3_method_15_code
def y_M_peek : MethodName := ⟨"DetourHookerModel", "peek", "(I)I"⟩
abbrev b_M_clear : ByteArray := prog_3_method_16_code
def y_M_clear : MethodName := ⟨"DetourHookerModel", "clear", "()I"⟩
abbrev b_M_setRegister : ByteArray := prog_3_method_17_code
def y_M_setRegister : MethodName := ⟨"DetourHookerModel", "setRegister", "(II)I"⟩
abbrev b_M_register : ByteArray := prog_3_method_18_code
def y_M_register : MethodName := ⟨"DetourHookerModel", "register", "(I)I"⟩
abbrev b_M_hook : ByteArray := prog_3_method_25_code
def y_M_hook : MethodName := ⟨"DetourHookerModel", "hook", "(I)I"⟩
abbrev b_M_headOf : ByteArray := prog_3_method_21_code
def y_M_headOf : MethodName := ⟨"DetourHookerModel", "headOf", "(I)I"⟩
abbrev b_M_starts : ByteArray := prog_3_method_19_code
def y_M_starts : MethodName := ⟨"DetourHookerModel", "starts", "(I)Z"⟩
abbrev b_M_nextOf : ByteArray := prog_3_method_20_code
def y_M_nextOf : MethodName := ⟨"DetourHookerModel", "nextOf", "(I)I"⟩
abbrev b_M_overlaps : ByteArray := prog_3_method_23_code
def y_M_overlaps : MethodName := ⟨"DetourHookerModel", "overlaps", "(II)Z"⟩
abbrev b_M_isEntered : ByteArray := prog_3_method_24_code
def y_M_isEntered : MethodName := ⟨"DetourHookerModel", "isEntered", "(II)Z"⟩
abbrev b_M_targetOf : ByteArray := prog_3_method_22_code
def y_M_targetOf : MethodName := ⟨"DetourHookerModel", "targetOf", "(I)I"⟩
abbrev b_M_unhook : ByteArray := prog_3_method_26_code
def y_M_unhook : MethodName := ⟨"DetourHookerModel", "unhook", "(I)I"⟩
abbrev b_M_calls : ByteArray := prog_3_method_27_code
def y_M_calls : MethodName := ⟨"DetourHookerModel", "calls", "(I)I"⟩
abbrev b_M_run : ByteArray := prog_3_method_31_code
def y_M_run : MethodName := ⟨"DetourHookerModel", "run", "(I)I"⟩
abbrev b_M_execute : ByteArray := prog_3_method_30_code
def y_M_execute : MethodName := ⟨"DetourHookerModel", "execute", "()V"⟩
abbrev b_M_goOn : ByteArray := prog_3_method_29_code
def y_M_goOn : MethodName := ⟨"DetourHookerModel", "goOn", "(II)V"⟩
abbrev b_M_ending : ByteArray := prog_3_method_32_code
def y_M_ending : MethodName := ⟨"DetourHookerModel", "ending", "()I"⟩
abbrev b_M_executed : ByteArray := prog_3_method_33_code
def y_M_executed : MethodName := ⟨"DetourHookerModel", "executed", "()I"⟩
-- a pure value: an int, or a cell by its number; a pure state: the ints of every cell
abbrev PV : Type := Int32 ⊕ Nat
def tv (ad : Nat → Nat) : PV → Value
  | .inl v => .int v
  | .inr c => .ref (ad c)
abbrev SG : Type := Nat → Nat → Int32
def ss (σ : SG) (c k : Nat) (v : Int32) : SG := fun c2 => if c2 = c then upd (σ c) k v else σ c2
abbrev tys2 (cI cZ : ClassId) : List (ClassId × FieldType) := [(cI, .int), (cZ, .boolean)]
abbrev SG2 : Type := SG × SG
def wd (ad : Nat → Nat) (cI cZ : ClassId) (S : SG2) : va_W := [(ad 0, .inr (0, [.int (S.1 0 0), .ref (ad 1), .ref (ad 2), .ref (ad 3), .ref (ad 4), .ref (ad 5), .int (S.1 0 6), .ref (ad 7), .ref (ad 8), .ref (ad 9), .ref (ad 10), .int (S.1 0 11), .ref (ad 12), .int (S.1 0 13), .int (S.1 0 14), .int (S.1 0 15)])),
  (ad 1, .inl (cI, 64, .inl (S.1 1))),
  (ad 2, .inl (cI, 64, .inl (S.1 2))),
  (ad 3, .inl (cZ, 64, .inl (S.1 3))),
  (ad 4, .inl (cI, 64, .inl (S.1 4))),
  (ad 5, .inl (cI, 64, .inl (S.1 5))),
  (ad 7, .inl (cI, 4, .inl (S.1 7))),
  (ad 8, .inl (cI, 4, .inl (S.1 8))),
  (ad 9, .inl (cI, 4, .inl (S.1 9))),
  (ad 10, .inl (cI, 4, .inl (S.1 10))),
  (ad 12, .inl (cI, 8, .inl (S.1 12))),
  (ad 16, .inr (1, [.ref (ad 17), .ref (ad 18), .int (S.2 16 2), .ref (ad 20), .ref (ad 21), .ref (ad 22), .ref (ad 23), .int (S.2 16 7), .int (S.2 16 8), .int (S.2 16 9), .int (S.2 16 10)])),
  (ad 17, .inl (cI, 64, .inl (S.2 17))),
  (ad 18, .inl (cZ, 64, .inl (S.2 18))),
  (ad 20, .inl (cI, 4, .inl (S.2 20))),
  (ad 21, .inl (cZ, 64, .inl (S.2 21))),
  (ad 22, .inl (cI, 64, .inl (S.2 22))),
  (ad 23, .inl (cI, 8, .inl (S.2 23)))]
/-- an array of the world: its number, its place in the list, its length; reading and writing -/
def AHI (c q n : Nat) : Prop := (∀ (ad : Nat → Nat) (cI cZ : ClassId) (σ μ : SG), (wd ad cI cZ (σ, μ))[q]? = some (ad c, .inl (cI, n, .inl (σ c)))) ∧ ∀ (ad : Nat → Nat) (cI cZ : ClassId) (σ μ : SG) (k : Nat) (v : Int32), (wd ad cI cZ (σ, μ)).set q (ad c, .inl (cI, n, .inl (upd (σ c) k v))) = wd ad cI cZ (ss σ c k v, μ)
def AHZ (c q n : Nat) : Prop := (∀ (ad : Nat → Nat) (cI cZ : ClassId) (σ μ : SG), (wd ad cI cZ (σ, μ))[q]? = some (ad c, .inl (cZ, n, .inl (σ c)))) ∧ ∀ (ad : Nat → Nat) (cI cZ : ClassId) (σ μ : SG) (k : Nat) (v : Int32), (wd ad cI cZ (σ, μ)).set q (ad c, .inl (cZ, n, .inl (upd (σ c) k v))) = wd ad cI cZ (ss σ c k v, μ)
def AMI (c q n : Nat) : Prop := (∀ (ad : Nat → Nat) (cI cZ : ClassId) (σ μ : SG), (wd ad cI cZ (σ, μ))[q]? = some (ad c, .inl (cI, n, .inl (μ c)))) ∧ ∀ (ad : Nat → Nat) (cI cZ : ClassId) (σ μ : SG) (k : Nat) (v : Int32), (wd ad cI cZ (σ, μ)).set q (ad c, .inl (cI, n, .inl (upd (μ c) k v))) = wd ad cI cZ (σ, ss μ c k v)
def AMZ (c q n : Nat) : Prop := (∀ (ad : Nat → Nat) (cI cZ : ClassId) (σ μ : SG), (wd ad cI cZ (σ, μ))[q]? = some (ad c, .inl (cZ, n, .inl (μ c)))) ∧ ∀ (ad : Nat → Nat) (cI cZ : ClassId) (σ μ : SG) (k : Nat) (v : Int32), (wd ad cI cZ (σ, μ)).set q (ad c, .inl (cZ, n, .inl (upd (μ c) k v))) = wd ad cI cZ (σ, ss μ c k v)
theorem ar_1 : AHI 1 1 64 := ⟨fun _ _ _ _ _ => rfl, fun _ _ _ _ _ _ _ => rfl⟩
theorem ar_2 : AHI 2 2 64 := ⟨fun _ _ _ _ _ => rfl, fun _ _ _ _ _ _ _ => rfl⟩
theorem ar_3 : AHZ 3 3 64 := ⟨fun _ _ _ _ _ => rfl, fun _ _ _ _ _ _ _ => rfl⟩
theorem ar_4 : AHI 4 4 64 := ⟨fun _ _ _ _ _ => rfl, fun _ _ _ _ _ _ _ => rfl⟩
theorem ar_5 : AHI 5 5 64 := ⟨fun _ _ _ _ _ => rfl, fun _ _ _ _ _ _ _ => rfl⟩
theorem ar_7 : AHI 7 6 4 := ⟨fun _ _ _ _ _ => rfl, fun _ _ _ _ _ _ _ => rfl⟩
theorem ar_8 : AHI 8 7 4 := ⟨fun _ _ _ _ _ => rfl, fun _ _ _ _ _ _ _ => rfl⟩
theorem ar_9 : AHI 9 8 4 := ⟨fun _ _ _ _ _ => rfl, fun _ _ _ _ _ _ _ => rfl⟩
theorem ar_10 : AHI 10 9 4 := ⟨fun _ _ _ _ _ => rfl, fun _ _ _ _ _ _ _ => rfl⟩
theorem ar_12 : AHI 12 10 8 := ⟨fun _ _ _ _ _ => rfl, fun _ _ _ _ _ _ _ => rfl⟩
theorem ar_17 : AMI 17 12 64 := ⟨fun _ _ _ _ _ => rfl, fun _ _ _ _ _ _ _ => rfl⟩
theorem ar_18 : AMZ 18 13 64 := ⟨fun _ _ _ _ _ => rfl, fun _ _ _ _ _ _ _ => rfl⟩
theorem ar_20 : AMI 20 14 4 := ⟨fun _ _ _ _ _ => rfl, fun _ _ _ _ _ _ _ => rfl⟩
theorem ar_21 : AMZ 21 15 64 := ⟨fun _ _ _ _ _ => rfl, fun _ _ _ _ _ _ _ => rfl⟩
theorem ar_22 : AMI 22 16 64 := ⟨fun _ _ _ _ _ => rfl, fun _ _ _ _ _ _ _ => rfl⟩
theorem ar_23 : AMI 23 17 8 := ⟨fun _ _ _ _ _ => rfl, fun _ _ _ _ _ _ _ => rfl⟩
-- a method's own data: its class, bytes, locals, answer, depth of calls, name
abbrev MD : Type := String × ByteArray × Nat × Option FieldType × Nat × MethodName
def rmD (d : Nat) : Room := { frames := d, cells := 0, slots := 0, locals := 30 * d }
def lr (ad : Nat → Nat) (ls : Array Slot) (nL : Nat) (L : List (Option PV)) : Prop := ls.size = nL ∧ lv_wf ls ∧ ∀ (i : Nat) (v : PV), L[i]? = some (some v) → ls[i]? = some (.val (tv ad v))
def Cx (K : MD) (p : Program) (s : State) (m : MethodId) (args : Array Value) (meth : Method) (c : Code) (D : va_G) (cI cZ : ClassId) (A : Nat → Prop) : Prop :=
  p.tables.exec = Jvm.exec ∧ c.code = K.2.1 ∧ meth.sig.returnType = K.2.2.2.1 ∧ c.maxLocals = K.2.2.1 ∧ s.vm.findClass K.1 = some m.cls ∧ meth.locks = false ∧ (∀ w ∈ tb, w.before args s = true) ∧ va_K D classes (tys2 cI cZ) s ∧ (∀ q : Nat, s.heap.size ≤ q → A q)
def Wx (D : va_G) (ad : Nat → Nat) (cI cZ : ClassId) (A : Nat → Prop) (σ : SG2) (U : State) : Prop := va_P D classes (wd ad cI cZ σ) U.heap ∧ va_K D classes (tys2 cI cZ) U ∧ va_D A (wd ad cI cZ σ)
def QM (D : va_G) (ad : Nat → Nat) (cI cZ : ClassId) (A : Nat → Prop) (r : Option Int32) (τ : SG2) : Array Value → State → Outcome → State → Prop := fun _ st oc t => (oc = .returned (r.map Value.int) ∧ Wx D ad cI cZ A τ t) ∧ va_F A st t
/-- the method K, now at pc with locals L, stack st and the ints σ, comes to its end with answer r and the ints τ -/
def PW (K : MD) (r : Option Int32) (τ : SG2) (pc : Nat) (L : List (Option PV)) (st : List PV) (σ : SG2) : Prop :=
  ∀ (p : Program) (l : Launch) (e : Env) (s : State) (m : MethodId) (args : Array Value) (below : List Frame) (meth : Method) (c : Code) (D : va_G) (ad : Nat → Nat) (cI cZ : ClassId) (A : Nat → Prop) (H : Heap) (locs : List Loc) (ls : Array Slot),
  Cx K p s m args meth c D cI cZ A → va_P D classes (wd ad cI cZ σ) H → va_D A (wd ad cI cZ σ) → va_S A s.heap H locs → lr ad ls K.2.2.1 L →
  W p l e (rmD K.2.2.2.2.1) s m args below meth c H locs 0 0 (MQ below (QM D ad cI cZ A r τ) args s 0 0 A) (F0 m pc ls (st.map (tv ad)))
/-- the contract: on arguments avs and ints σ the method answers r and leaves the ints τ -/
def CF (K : MD) (avs : List PV) (σ : SG2) (r : Option Int32) (τ : SG2) : Prop :=
  ∀ (l : Launch) (D : va_G) (cI cZ : ClassId) (ad : Nat → Nat) (sz : Nat), Met l K.2.2.2.2.2 (.code K.2.2.2.2.2 K.2.1 K.2.2.1 K.2.2.2.1 :: tb) (rmD K.2.2.2.2.1) (va_Pc (avs.map (tv ad)) (fun U => U.heap.size = sz ∧ Wx D ad cI cZ (fun _ => True) σ U)) (QM D ad cI cZ (va_A (wd ad cI cZ σ) sz) r τ) 0 0 (va_A (wd ad cI cZ σ) sz)
theorem tv_cat (ad : Nat → Nat) (v : PV) : (tv ad v).category = 1 := by cases v <;> rfl
theorem lg_sl_tv (ad : Nat → Nat) (vs : List PV) : lg_sl (vs.map (tv ad)) = vs.map (fun v => Slot.val (tv ad v)) := by
  induction vs with
  | nil => rfl
  | cons v vs ih =>
    have h : lg_sl ((v :: vs).map (tv ad)) = Slot.val (tv ad v) :: lg_sl (vs.map (tv ad)) := by
      simp [lg_sl, tv_cat]
    rw [h, ih]; rfl
theorem lr_entry (ad : Nat → Nat) (vs : List PV) {n : Nat} (h : vs.length ≤ n) : lr ad ((lg_sl (vs.map (tv ad)) ++ List.replicate (n - (lg_sl (vs.map (tv ad))).length) Slot.unset).toArray) n (vs.map some ++ List.replicate (n - vs.length) none) := by
  have hl : (lg_sl (vs.map (tv ad))).length = vs.length := by rw [lg_sl_tv]; simp
  have h0 := lv_entry (vs.map (tv ad)) (n := n) (by rw [hl]; exact h)
  refine ⟨h0.1, h0.2.1, fun i v hv => ?_⟩
  rw [lg_sl_tv]
  by_cases hi : i < vs.length
  · rw [List.getElem?_append_left (by simpa using hi)] at hv
    simp only [List.getElem?_map, Option.map_eq_some_iff] at hv
    obtain ⟨w, hw, hw2⟩ := hv
    simp only [Option.some.injEq] at hw2
    subst hw2
    have hw3 : vs[i] = w := by rw [List.getElem?_eq_getElem hi] at hw; exact Option.some.inj hw
    simp [List.getElem?_append_left, hi, hw3]
  · rw [List.getElem?_append_right (by simp; omega)] at hv
    rw [List.getElem?_replicate] at hv
    split at hv <;> simp at hv
def prs (ad : Nat → Nat) (L : List (Option PV)) : List (Nat × Value) := (List.range L.length).filterMap (fun i => match L[i]? with | some (some v) => some (i, tv ad v) | _ => none)
theorem mem_prs {ad : Nat → Nat} {L : List (Option PV)} {q : Nat × Value} (h : q ∈ prs ad L) : ∃ v, L[q.1]? = some (some v) ∧ q.2 = tv ad v := by
  obtain ⟨i, -, hi⟩ := List.mem_filterMap.mp h
  split at hi
  · rename_i v hv
    cases hi
    exact ⟨v, hv, rfl⟩
  · cases hi
theorem prs_mem {ad : Nat → Nat} {L : List (Option PV)} {i : Nat} {v : PV} (h : L[i]? = some (some v)) : (i, tv ad v) ∈ prs ad L := by
  refine List.mem_filterMap.mpr ⟨i, List.mem_range.mpr (List.getElem?_eq_some_iff.mp h).1, ?_⟩
  simp [h]
theorem lr_has {ad : Nat → Nat} {ls : Array Slot} {nL : Nat} {L : List (Option PV)} (h : lr ad ls nL L) : lv_has ls nL (prs ad L) := by
  refine ⟨h.1, h.2.1, fun q hq => ?_⟩
  obtain ⟨v, h1, h2⟩ := mem_prs hq
  rw [h2]; exact h.2.2 _ _ h1
theorem lr_put {ad : Nat → Nat} {ls : Array Slot} {nL i : Nat} {L : List (Option PV)} {x : PV} (h : lv_has ls nL ((i, tv ad x) :: (prs ad L).filter (fun q => !(q.1 == i) && !(q.1 + 1 == i && q.2.category == 2)))) : lr ad ls nL (L.set i (some x)) := by
  refine ⟨h.1, h.2.1, fun j v hj => ?_⟩
  by_cases e : i = j
  · subst e
    rw [List.getElem?_set] at hj
    simp only [if_true] at hj
    split at hj
    · simp only [Option.some.injEq] at hj
      subst hj
      exact h.2.2 (i, tv ad x) List.mem_cons_self
    · cases hj
  · rw [List.getElem?_set_ne e] at hj
    refine h.2.2 (j, tv ad v) (List.mem_cons_of_mem _ (List.mem_filter.mpr ⟨prs_mem hj, ?_⟩))
    have e2 : ¬ j = i := fun q => e q.symm
    simp [e2, tv_cat]
section ROWS
variable {K : MD} {r : Option Int32} {τ σ : SG2} {pc : Nat} {L L' : List (Option PV)} {st : List PV}
theorem P_iconst {n : Int} {v : Int32} (hd : decode K.2.1 pc = .ok (.iconst n, 1)) (hv : Int32.ofInt n = v) (h : PW K r τ (pc + 1) L (.inl v :: st) σ) : PW K r τ pc L st σ := by
  intro p l e s m args below meth c D ad cI cZ A H locs ls X hP hD hS hl
  exact lv_iconst X.1 X.2.1 hd hv (h p l e s m args below meth c D ad cI cZ A H locs ls X hP hD hS hl)
theorem P_bipush {n : Int} {v : Int32} (hd : decode K.2.1 pc = .ok (.bipush n, 2)) (hv : (Int8.ofInt n).toInt32 = v) (h : PW K r τ (pc + 2) L (.inl v :: st) σ) : PW K r τ pc L st σ := by
  intro p l e s m args below meth c D ad cI cZ A H locs ls X hP hD hS hl
  exact lv_bipush X.1 X.2.1 hd hv (h p l e s m args below meth c D ad cI cZ A H locs ls X hP hD hS hl)
theorem P_sipush {n : Int} {v : Int32} (hd : decode K.2.1 pc = .ok (.sipush n, 3)) (hv : (Int16.ofInt n).toInt32 = v) (h : PW K r τ (pc + 3) L (.inl v :: st) σ) : PW K r τ pc L st σ := by
  intro p l e s m args below meth c D ad cI cZ A H locs ls X hP hD hS hl
  exact lv_sipush X.1 X.2.1 hd hv (h p l e s m args below meth c D ad cI cZ A H locs ls X hP hD hS hl)
theorem P_iload_n {k : Fin 4} {x : Int32} (hd : decode K.2.1 pc = .ok (.iload_n k, 1)) (hv : L[(k : Nat)]? = some (some (.inl x))) (h : PW K r τ (pc + 1) L (.inl x :: st) σ) : PW K r τ pc L st σ := by
  intro p l e s m args below meth c D ad cI cZ A H locs ls X hP hD hS hl
  exact lv_iload_n X.1 X.2.1 hd rfl (hl.2.2 _ _ hv) (h p l e s m args below meth c D ad cI cZ A H locs ls X hP hD hS hl)
theorem P_iload {i : Nat} {x : Int32} (hd : decode K.2.1 pc = .ok (.iload i, 2)) (hv : L[i]? = some (some (.inl x))) (h : PW K r τ (pc + 2) L (.inl x :: st) σ) : PW K r τ pc L st σ := by
  intro p l e s m args below meth c D ad cI cZ A H locs ls X hP hD hS hl
  exact lv_iload X.1 X.2.1 hd (hl.2.2 _ _ hv) (h p l e s m args below meth c D ad cI cZ A H locs ls X hP hD hS hl)
theorem P_aload_n {k : Fin 4} {x : Nat} (hd : decode K.2.1 pc = .ok (.aload_n k, 1)) (hv : L[(k : Nat)]? = some (some (.inr x))) (h : PW K r τ (pc + 1) L (.inr x :: st) σ) : PW K r τ pc L st σ := by
  intro p l e s m args below meth c D ad cI cZ A H locs ls X hP hD hS hl
  exact lv_aload_n X.1 X.2.1 hd rfl (hl.2.2 _ _ hv) (h p l e s m args below meth c D ad cI cZ A H locs ls X hP hD hS hl)
theorem P_istore_n {k : Fin 4} {x : Int32} (hd : decode K.2.1 pc = .ok (.istore_n k, 1)) (hn : (k : Nat) < K.2.2.1) (hL : L.set (k : Nat) (some (.inl x)) = L') (h : PW K r τ (pc + 1) L' st σ) : PW K r τ pc L (.inl x :: st) σ := by
  intro p l e s m args below meth c D ad cI cZ A H locs ls X hP hD hS hl
  exact lv_istore_n X.1 X.2.1 hd rfl (lr_has hl) hn rfl (fun ls2 h2 => h p l e s m args below meth c D ad cI cZ A H locs ls2 X hP hD hS (hL ▸ lr_put (x := .inl x) h2))
theorem P_istore {i : Nat} {x : Int32} (hd : decode K.2.1 pc = .ok (.istore i, 2)) (hn : i < K.2.2.1) (hL : L.set i (some (.inl x)) = L') (h : PW K r τ (pc + 2) L' st σ) : PW K r τ pc L (.inl x :: st) σ := by
  intro p l e s m args below meth c D ad cI cZ A H locs ls X hP hD hS hl
  exact lv_istore X.1 X.2.1 hd (lr_has hl) hn rfl (fun ls2 h2 => h p l e s m args below meth c D ad cI cZ A H locs ls2 X hP hD hS (hL ▸ lr_put (x := .inl x) h2))
theorem P_iinc {i : Nat} {n : Int} {x v : Int32} (hd : decode K.2.1 pc = .ok (.iinc i n, 3)) (hv : L[i]? = some (some (.inl x))) (he : x + Int32.ofInt n = v) (hn : i < K.2.2.1) (hL : L.set i (some (.inl v)) = L') (h : PW K r τ (pc + 3) L' st σ) : PW K r τ pc L st σ := by
  intro p l e s m args below meth c D ad cI cZ A H locs ls X hP hD hS hl
  obtain ⟨k, hk⟩ := List.getElem?_of_mem (prs_mem (ad := ad) hv)
  exact lv_iinc X.1 X.2.1 hd (lr_has hl) hk he hn rfl (fun ls2 h2 => h p l e s m args below meth c D ad cI cZ A H locs ls2 X hP hD hS (hL ▸ lr_put (x := .inl v) h2))
theorem P_iadd {x y : Int32} (hd : decode K.2.1 pc = .ok (.iadd, 1)) (h : PW K r τ (pc + 1) L (.inl (x + y) :: st) σ) : PW K r τ pc L (.inl y :: .inl x :: st) σ := by
  intro p l e s m args below meth c D ad cI cZ A H locs ls X hP hD hS hl
  exact lv_iadd X.1 X.2.1 hd (h p l e s m args below meth c D ad cI cZ A H locs ls X hP hD hS hl)
theorem P_isub {x y : Int32} (hd : decode K.2.1 pc = .ok (.isub, 1)) (h : PW K r τ (pc + 1) L (.inl (x - y) :: st) σ) : PW K r τ pc L (.inl y :: .inl x :: st) σ := by
  intro p l e s m args below meth c D ad cI cZ A H locs ls X hP hD hS hl
  exact lv_isub X.1 X.2.1 hd (h p l e s m args below meth c D ad cI cZ A H locs ls X hP hD hS hl)
theorem P_imul {x y : Int32} (hd : decode K.2.1 pc = .ok (.imul, 1)) (h : PW K r τ (pc + 1) L (.inl (x * y) :: st) σ) : PW K r τ pc L (.inl y :: .inl x :: st) σ := by
  intro p l e s m args below meth c D ad cI cZ A H locs ls X hP hD hS hl
  exact lv_imul X.1 X.2.1 hd (h p l e s m args below meth c D ad cI cZ A H locs ls X hP hD hS hl)
theorem P_iand {x y : Int32} (hd : decode K.2.1 pc = .ok (.iand, 1)) (h : PW K r τ (pc + 1) L (.inl (x &&& y) :: st) σ) : PW K r τ pc L (.inl y :: .inl x :: st) σ := by
  intro p l e s m args below meth c D ad cI cZ A H locs ls X hP hD hS hl
  exact lv_iand X.1 X.2.1 hd (h p l e s m args below meth c D ad cI cZ A H locs ls X hP hD hS hl)
theorem P_ishr {x y : Int32} (hd : decode K.2.1 pc = .ok (.ishr, 1)) (h : PW K r τ (pc + 1) L (.inl (x >>> (y &&& 31)) :: st) σ) : PW K r τ pc L (.inl y :: .inl x :: st) σ := by
  intro p l e s m args below meth c D ad cI cZ A H locs ls X hP hD hS hl
  exact lv_ishr X.1 X.2.1 hd (h p l e s m args below meth c D ad cI cZ A H locs ls X hP hD hS hl)
/-- a computed number gets a name, or another form -/
theorem P_top {x y : Int32} (e : x = y) (h : PW K r τ pc L (.inl y :: st) σ) : PW K r τ pc L (.inl x :: st) σ := e ▸ h
theorem P_dup {v : PV} (hd : decode K.2.1 pc = .ok (.dup, 1)) (h : PW K r τ (pc + 1) L (v :: v :: st) σ) : PW K r τ pc L (v :: st) σ := by
  intro p l e s m args below meth c D ad cI cZ A H locs ls X hP hD hS hl
  exact lv_dup X.1 X.2.1 hd (tv_cat ad v) (h p l e s m args below meth c D ad cI cZ A H locs ls X hP hD hS hl)
theorem P_dup2 {v w : PV} (hd : decode K.2.1 pc = .ok (.dup2, 1)) (h : PW K r τ (pc + 1) L (v :: w :: v :: w :: st) σ) : PW K r τ pc L (v :: w :: st) σ := by
  intro p l e s m args below meth c D ad cI cZ A H locs ls X hP hD hS hl
  exact lv_dup2_11 X.1 X.2.1 hd (tv_cat ad v) (tv_cat ad w) (h p l e s m args below meth c D ad cI cZ A H locs ls X hP hD hS hl)
theorem P_goto {off : Int} (tgt : Nat) (hd : decode K.2.1 pc = .ok (.goto off, 3)) (ht : (pc : Int) + off = (tgt : Int)) (h : PW K r τ tgt L st σ) : PW K r τ pc L st σ := by
  intro p l e s m args below meth c D ad cI cZ A H locs ls X hP hD hS hl
  exact lv_goto X.1 X.2.1 hd ht (h p l e s m args below meth c D ad cI cZ A H locs ls X hP hD hS hl)
theorem P_icmp_eq {x y : Int32} {off : Int} (tgt : Nat) (hd : decode K.2.1 pc = .ok (.if_icmp .eq off, 3)) (ht : (pc : Int) + off = (tgt : Int)) (ht1 : x = y → PW K r τ tgt L st σ) (hf1 : ¬ x = y → PW K r τ (pc + 3) L st σ) : PW K r τ pc L (.inl y :: .inl x :: st) σ := by
  intro p l e s m args below meth c D ad cI cZ A H locs ls X hP hD hS hl
  exact lv_icmp_eq X.1 X.2.1 hd ht (fun q => ht1 q p l e s m args below meth c D ad cI cZ A H locs ls X hP hD hS hl) (fun q => hf1 q p l e s m args below meth c D ad cI cZ A H locs ls X hP hD hS hl)
theorem P_if_eq {x : Int32} {off : Int} (tgt : Nat) (hd : decode K.2.1 pc = .ok (.ifCond .eq off, 3)) (ht : (pc : Int) + off = (tgt : Int)) (ht1 : x = 0 → PW K r τ tgt L st σ) (hf1 : ¬ x = 0 → PW K r τ (pc + 3) L st σ) : PW K r τ pc L (.inl x :: st) σ := by
  intro p l e s m args below meth c D ad cI cZ A H locs ls X hP hD hS hl
  exact lv_if_eq X.1 X.2.1 hd ht (fun q => ht1 q p l e s m args below meth c D ad cI cZ A H locs ls X hP hD hS hl) (fun q => hf1 q p l e s m args below meth c D ad cI cZ A H locs ls X hP hD hS hl)
theorem P_icmp_ne {x y : Int32} {off : Int} (tgt : Nat) (hd : decode K.2.1 pc = .ok (.if_icmp .ne off, 3)) (ht : (pc : Int) + off = (tgt : Int)) (ht1 : ¬ x = y → PW K r τ tgt L st σ) (hf1 : x = y → PW K r τ (pc + 3) L st σ) : PW K r τ pc L (.inl y :: .inl x :: st) σ := by
  intro p l e s m args below meth c D ad cI cZ A H locs ls X hP hD hS hl
  exact lv_icmp_ne X.1 X.2.1 hd ht (fun q => ht1 q p l e s m args below meth c D ad cI cZ A H locs ls X hP hD hS hl) (fun q => hf1 q p l e s m args below meth c D ad cI cZ A H locs ls X hP hD hS hl)
theorem P_if_ne {x : Int32} {off : Int} (tgt : Nat) (hd : decode K.2.1 pc = .ok (.ifCond .ne off, 3)) (ht : (pc : Int) + off = (tgt : Int)) (ht1 : ¬ x = 0 → PW K r τ tgt L st σ) (hf1 : x = 0 → PW K r τ (pc + 3) L st σ) : PW K r τ pc L (.inl x :: st) σ := by
  intro p l e s m args below meth c D ad cI cZ A H locs ls X hP hD hS hl
  exact lv_if_ne X.1 X.2.1 hd ht (fun q => ht1 q p l e s m args below meth c D ad cI cZ A H locs ls X hP hD hS hl) (fun q => hf1 q p l e s m args below meth c D ad cI cZ A H locs ls X hP hD hS hl)
theorem P_icmp_lt {x y : Int32} {off : Int} (tgt : Nat) (hd : decode K.2.1 pc = .ok (.if_icmp .lt off, 3)) (ht : (pc : Int) + off = (tgt : Int)) (ht1 : x < y → PW K r τ tgt L st σ) (hf1 : ¬ x < y → PW K r τ (pc + 3) L st σ) : PW K r τ pc L (.inl y :: .inl x :: st) σ := by
  intro p l e s m args below meth c D ad cI cZ A H locs ls X hP hD hS hl
  exact lv_icmp_lt X.1 X.2.1 hd ht (fun q => ht1 q p l e s m args below meth c D ad cI cZ A H locs ls X hP hD hS hl) (fun q => hf1 q p l e s m args below meth c D ad cI cZ A H locs ls X hP hD hS hl)
theorem P_if_lt {x : Int32} {off : Int} (tgt : Nat) (hd : decode K.2.1 pc = .ok (.ifCond .lt off, 3)) (ht : (pc : Int) + off = (tgt : Int)) (ht1 : x < 0 → PW K r τ tgt L st σ) (hf1 : ¬ x < 0 → PW K r τ (pc + 3) L st σ) : PW K r τ pc L (.inl x :: st) σ := by
  intro p l e s m args below meth c D ad cI cZ A H locs ls X hP hD hS hl
  exact lv_if_lt X.1 X.2.1 hd ht (fun q => ht1 q p l e s m args below meth c D ad cI cZ A H locs ls X hP hD hS hl) (fun q => hf1 q p l e s m args below meth c D ad cI cZ A H locs ls X hP hD hS hl)
theorem P_icmp_ge {x y : Int32} {off : Int} (tgt : Nat) (hd : decode K.2.1 pc = .ok (.if_icmp .ge off, 3)) (ht : (pc : Int) + off = (tgt : Int)) (ht1 : y ≤ x → PW K r τ tgt L st σ) (hf1 : ¬ y ≤ x → PW K r τ (pc + 3) L st σ) : PW K r τ pc L (.inl y :: .inl x :: st) σ := by
  intro p l e s m args below meth c D ad cI cZ A H locs ls X hP hD hS hl
  exact lv_icmp_ge X.1 X.2.1 hd ht (fun q => ht1 q p l e s m args below meth c D ad cI cZ A H locs ls X hP hD hS hl) (fun q => hf1 q p l e s m args below meth c D ad cI cZ A H locs ls X hP hD hS hl)
theorem P_if_ge {x : Int32} {off : Int} (tgt : Nat) (hd : decode K.2.1 pc = .ok (.ifCond .ge off, 3)) (ht : (pc : Int) + off = (tgt : Int)) (ht1 : 0 ≤ x → PW K r τ tgt L st σ) (hf1 : ¬ 0 ≤ x → PW K r τ (pc + 3) L st σ) : PW K r τ pc L (.inl x :: st) σ := by
  intro p l e s m args below meth c D ad cI cZ A H locs ls X hP hD hS hl
  exact lv_if_ge X.1 X.2.1 hd ht (fun q => ht1 q p l e s m args below meth c D ad cI cZ A H locs ls X hP hD hS hl) (fun q => hf1 q p l e s m args below meth c D ad cI cZ A H locs ls X hP hD hS hl)
theorem P_icmp_gt {x y : Int32} {off : Int} (tgt : Nat) (hd : decode K.2.1 pc = .ok (.if_icmp .gt off, 3)) (ht : (pc : Int) + off = (tgt : Int)) (ht1 : y < x → PW K r τ tgt L st σ) (hf1 : ¬ y < x → PW K r τ (pc + 3) L st σ) : PW K r τ pc L (.inl y :: .inl x :: st) σ := by
  intro p l e s m args below meth c D ad cI cZ A H locs ls X hP hD hS hl
  exact lv_icmp_gt X.1 X.2.1 hd ht (fun q => ht1 q p l e s m args below meth c D ad cI cZ A H locs ls X hP hD hS hl) (fun q => hf1 q p l e s m args below meth c D ad cI cZ A H locs ls X hP hD hS hl)
theorem P_if_gt {x : Int32} {off : Int} (tgt : Nat) (hd : decode K.2.1 pc = .ok (.ifCond .gt off, 3)) (ht : (pc : Int) + off = (tgt : Int)) (ht1 : 0 < x → PW K r τ tgt L st σ) (hf1 : ¬ 0 < x → PW K r τ (pc + 3) L st σ) : PW K r τ pc L (.inl x :: st) σ := by
  intro p l e s m args below meth c D ad cI cZ A H locs ls X hP hD hS hl
  exact lv_if_gt X.1 X.2.1 hd ht (fun q => ht1 q p l e s m args below meth c D ad cI cZ A H locs ls X hP hD hS hl) (fun q => hf1 q p l e s m args below meth c D ad cI cZ A H locs ls X hP hD hS hl)
theorem P_icmp_le {x y : Int32} {off : Int} (tgt : Nat) (hd : decode K.2.1 pc = .ok (.if_icmp .le off, 3)) (ht : (pc : Int) + off = (tgt : Int)) (ht1 : x ≤ y → PW K r τ tgt L st σ) (hf1 : ¬ x ≤ y → PW K r τ (pc + 3) L st σ) : PW K r τ pc L (.inl y :: .inl x :: st) σ := by
  intro p l e s m args below meth c D ad cI cZ A H locs ls X hP hD hS hl
  exact lv_icmp_le X.1 X.2.1 hd ht (fun q => ht1 q p l e s m args below meth c D ad cI cZ A H locs ls X hP hD hS hl) (fun q => hf1 q p l e s m args below meth c D ad cI cZ A H locs ls X hP hD hS hl)
theorem P_if_le {x : Int32} {off : Int} (tgt : Nat) (hd : decode K.2.1 pc = .ok (.ifCond .le off, 3)) (ht : (pc : Int) + off = (tgt : Int)) (ht1 : x ≤ 0 → PW K r τ tgt L st σ) (hf1 : ¬ x ≤ 0 → PW K r τ (pc + 3) L st σ) : PW K r τ pc L (.inl x :: st) σ := by
  intro p l e s m args below meth c D ad cI cZ A H locs ls X hP hD hS hl
  exact lv_if_le X.1 X.2.1 hd ht (fun q => ht1 q p l e s m args below meth c D ad cI cZ A H locs ls X hP hD hS hl) (fun q => hf1 q p l e s m args below meth c D ad cI cZ A H locs ls X hP hD hS hl)
theorem P_iret {v : Int32} (hd : decode K.2.1 pc = .ok (.ireturn, 1)) (hr : r = some v) (hσ : τ = σ) (ho : K.2.2.2.1 = some .int := by rfl) : PW K r τ pc L [.inl v] σ := by
  subst hr; subst hσ
  intro p l e s m args below meth c D ad cI cZ A H locs ls X hP hD hS hl
  obtain ⟨hx, hb, hr, hml, hown, hlk, hts, hK, hA⟩ := id X
  exact W.iret hx hb (hr.trans ho) (fun t ht hW => ⟨⟨rfl, by rw [ht]; exact hP, va_K.moved hW.alike hK, hD⟩, hS.F ht⟩) hS.2.2 hd
theorem P_zret {v : Int32} (hd : decode K.2.1 pc = .ok (.ireturn, 1)) (hv : v = 0 ∨ v = 1) (hr : r = some v) (hσ : τ = σ) (ho : K.2.2.2.1 = some .boolean := by rfl) : PW K r τ pc L [.inl v] σ := by
  subst hr; subst hσ
  intro p l e s m args below meth c D ad cI cZ A H locs ls X hP hD hS hl
  obtain ⟨hx, hb, hr, hml, hown, hlk, hts, hK, hA⟩ := id X
  exact W.zret hx hb (hr.trans ho) (by rcases hv with rfl | rfl <;> rfl) (fun t ht hW => ⟨⟨rfl, by rw [ht]; exact hP, va_K.moved hW.alike hK, hD⟩, hS.F ht⟩) hS.2.2 hd
theorem P_vret (hd : decode K.2.1 pc = .ok (.return_, 1)) (hr : r = none) (hσ : τ = σ) (ho : K.2.2.2.1 = none := by rfl) : PW K r τ pc L [] σ := by
  subst hr; subst hσ
  intro p l e s m args below meth c D ad cI cZ A H locs ls X hP hD hS hl
  obtain ⟨hx, hb, hr, hml, hown, hlk, hts, hK, hA⟩ := id X
  exact W.vret hx hb (hr.trans ho) (fun t ht hW => ⟨⟨rfl, by rw [ht]; exact hP, va_K.moved hW.alike hK, hD⟩, hS.F ht⟩) hS.2.2 hd
end ROWS
theorem P_iald {K : MD} {r : Option Int32} {τ : SG2} {σ μ : SG} {pc : Nat} {L : List (Option PV)} {st : List PV} {a q n : Nat} {i : Int32} (ha : AHI a q n) (hi : vp_in i n) (hd : decode K.2.1 pc = .ok (.iaload, 1)) (h : PW K r τ (pc + 1) L (.inl (σ a i.toNatClampNeg) :: st) (σ, μ)) : PW K r τ pc L (.inl i :: .inr a :: st) (σ, μ) := by
  intro p l e s m args below meth c D ad cI cZ A H locs ls X hP hD hS hl
  obtain ⟨hx, hb, hr, hml, hown, hlk, hts, hK, hA⟩ := id X
  exact va_iald hx hb hK hP q 0 (ha.1 ad cI cZ σ μ) rfl hi hd (h p l e s m args below meth c D ad cI cZ A H locs ls X hP hD hS hl)
theorem P_zald {K : MD} {r : Option Int32} {τ : SG2} {σ μ : SG} {pc : Nat} {L : List (Option PV)} {st : List PV} {a q n : Nat} {i : Int32} (ha : AHZ a q n) (hi : vp_in i n) (hd : decode K.2.1 pc = .ok (.baload, 1)) (h : PW K r τ (pc + 1) L (.inl (σ a i.toNatClampNeg) :: st) (σ, μ)) : PW K r τ pc L (.inl i :: .inr a :: st) (σ, μ) := by
  intro p l e s m args below meth c D ad cI cZ A H locs ls X hP hD hS hl
  obtain ⟨hx, hb, hr, hml, hown, hlk, hts, hK, hA⟩ := id X
  exact va_zald hx hb hK hP q 1 (ha.1 ad cI cZ σ μ) rfl hi hd (h p l e s m args below meth c D ad cI cZ A H locs ls X hP hD hS hl)
theorem P_iast {K : MD} {r : Option Int32} {τ : SG2} {σ μ : SG} {pc : Nat} {L : List (Option PV)} {st : List PV} {a q n : Nat} {i x : Int32} (ha : AHI a q n) (hi : vp_in i n) (hd : decode K.2.1 pc = .ok (.iastore, 1)) (h : PW K r τ (pc + 1) L st (ss σ a i.toNatClampNeg x, μ)) : PW K r τ pc L (.inl x :: .inl i :: .inr a :: st) (σ, μ) := by
  intro p l e s m args below meth c D ad cI cZ A H locs ls X hP hD hS hl
  obtain ⟨hx, hb, hr, hml, hown, hlk, hts, hK, hA⟩ := id X
  refine va_iast hx hb hK hP hD hS q 0 (ha.1 ad cI cZ σ μ) rfl hi hd (fun H1 locs1 hP1 hD1 hS1 => ?_)
  rw [ha.2] at hP1 hD1
  exact h p l e s m args below meth c D ad cI cZ A H1 locs1 ls X hP1 hD1 hS1 hl
theorem P_zast {K : MD} {r : Option Int32} {τ : SG2} {σ μ : SG} {pc : Nat} {L : List (Option PV)} {st : List PV} {a q n : Nat} {i x y : Int32} (ha : AHZ a q n) (hi : vp_in i n) (hy : vp_nar .boolean x = y) (hd : decode K.2.1 pc = .ok (.bastore, 1)) (h : PW K r τ (pc + 1) L st (ss σ a i.toNatClampNeg y, μ)) : PW K r τ pc L (.inl x :: .inl i :: .inr a :: st) (σ, μ) := by
  intro p l e s m args below meth c D ad cI cZ A H locs ls X hP hD hS hl
  obtain ⟨hx, hb, hr, hml, hown, hlk, hts, hK, hA⟩ := id X
  refine va_zast hx hb hK hP hD hS q 1 (ha.1 ad cI cZ σ μ) rfl hi hd (fun H1 locs1 hP1 hD1 hS1 => ?_)
  rw [ha.2, hy] at hP1 hD1
  exact h p l e s m args below meth c D ad cI cZ A H1 locs1 ls X hP1 hD1 hS1 hl
theorem Q_iald {K : MD} {r : Option Int32} {τ : SG2} {σ μ : SG} {pc : Nat} {L : List (Option PV)} {st : List PV} {a q n : Nat} {i : Int32} (ha : AMI a q n) (hi : vp_in i n) (hd : decode K.2.1 pc = .ok (.iaload, 1)) (h : PW K r τ (pc + 1) L (.inl (μ a i.toNatClampNeg) :: st) (σ, μ)) : PW K r τ pc L (.inl i :: .inr a :: st) (σ, μ) := by
  intro p l e s m args below meth c D ad cI cZ A H locs ls X hP hD hS hl
  obtain ⟨hx, hb, hr, hml, hown, hlk, hts, hK, hA⟩ := id X
  exact va_iald hx hb hK hP q 0 (ha.1 ad cI cZ σ μ) rfl hi hd (h p l e s m args below meth c D ad cI cZ A H locs ls X hP hD hS hl)
theorem Q_zald {K : MD} {r : Option Int32} {τ : SG2} {σ μ : SG} {pc : Nat} {L : List (Option PV)} {st : List PV} {a q n : Nat} {i : Int32} (ha : AMZ a q n) (hi : vp_in i n) (hd : decode K.2.1 pc = .ok (.baload, 1)) (h : PW K r τ (pc + 1) L (.inl (μ a i.toNatClampNeg) :: st) (σ, μ)) : PW K r τ pc L (.inl i :: .inr a :: st) (σ, μ) := by
  intro p l e s m args below meth c D ad cI cZ A H locs ls X hP hD hS hl
  obtain ⟨hx, hb, hr, hml, hown, hlk, hts, hK, hA⟩ := id X
  exact va_zald hx hb hK hP q 1 (ha.1 ad cI cZ σ μ) rfl hi hd (h p l e s m args below meth c D ad cI cZ A H locs ls X hP hD hS hl)
theorem Q_iast {K : MD} {r : Option Int32} {τ : SG2} {σ μ : SG} {pc : Nat} {L : List (Option PV)} {st : List PV} {a q n : Nat} {i x : Int32} (ha : AMI a q n) (hi : vp_in i n) (hd : decode K.2.1 pc = .ok (.iastore, 1)) (h : PW K r τ (pc + 1) L st (σ, ss μ a i.toNatClampNeg x)) : PW K r τ pc L (.inl x :: .inl i :: .inr a :: st) (σ, μ) := by
  intro p l e s m args below meth c D ad cI cZ A H locs ls X hP hD hS hl
  obtain ⟨hx, hb, hr, hml, hown, hlk, hts, hK, hA⟩ := id X
  refine va_iast hx hb hK hP hD hS q 0 (ha.1 ad cI cZ σ μ) rfl hi hd (fun H1 locs1 hP1 hD1 hS1 => ?_)
  rw [ha.2] at hP1 hD1
  exact h p l e s m args below meth c D ad cI cZ A H1 locs1 ls X hP1 hD1 hS1 hl
theorem Q_zast {K : MD} {r : Option Int32} {τ : SG2} {σ μ : SG} {pc : Nat} {L : List (Option PV)} {st : List PV} {a q n : Nat} {i x y : Int32} (ha : AMZ a q n) (hi : vp_in i n) (hy : vp_nar .boolean x = y) (hd : decode K.2.1 pc = .ok (.bastore, 1)) (h : PW K r τ (pc + 1) L st (σ, ss μ a i.toNatClampNeg y)) : PW K r τ pc L (.inl x :: .inl i :: .inr a :: st) (σ, μ) := by
  intro p l e s m args below meth c D ad cI cZ A H locs ls X hP hD hS hl
  obtain ⟨hx, hb, hr, hml, hown, hlk, hts, hK, hA⟩ := id X
  refine va_zast hx hb hK hP hD hS q 1 (ha.1 ad cI cZ σ μ) rfl hi hd (fun H1 locs1 hP1 hD1 hS1 => ?_)
  rw [ha.2, hy] at hP1 hD1
  exact h p l e s m args below meth c D ad cI cZ A H1 locs1 ls X hP1 hD1 hS1 hl
/-- a contract out of a walk -/
theorem CF.of {K : MD} {avs : List PV} {σ τ : SG2} {r : Option Int32} {L : List (Option PV)} (hy : plainName K.2.2.2.2.2.cls = true) (ho : K.2.2.2.2.2.cls = K.1) (hn : avs.length ≤ K.2.2.1) (hL : avs.map some ++ List.replicate (K.2.2.1 - avs.length) none = L) (h : PW K r τ 0 L [] σ) : CF K avs σ r τ := by
  subst hL
  intro l D cI cZ ad sz
  refine Met.ofW (cc := K.2.1) (maxL := K.2.2.1) (ret := K.2.2.2.1) hy rfl ?_
  intro p e s m args below meth c s₁ B hml hv
  obtain ⟨rfl, hsz, hP, hK, hD0⟩ := hv
  have hts := atoms_spec (ws := .code K.2.2.2.2.2 K.2.1 K.2.2.1 K.2.2.2.1 :: tb) B.pre
  have hown : s.vm.findClass K.2.2.2.2.2.cls = some m.cls := findClass_of_methodNamed B.named
  rw [ho] at hown
  subst hsz
  have hl := lr_entry ad avs hn
  rw [lg_entry_eq]
  exact h p l e s m _ below meth c D ad cI cZ _ s.heap [] _ ⟨B.exec, B.bytes, B.returns, hml, hown, B.notSynchronized, fun w hw => hts w (List.mem_cons_of_mem _ hw), hK, fun q hq => Or.inr hq⟩ hP hD0.self va_S.rf hl
theorem lw_good : ∀ w ∈ tb, goodWord w = true := fun w hw => (List.mem_filter.mp hw).2
/-- what a call needs of a callee -/
def OKc (K : MD) : Prop := (Cond.code K.2.2.2.2.2 K.2.1 K.2.2.1 K.2.2.2.1 ∈ tb ∧ Cond.instanceMethod K.2.2.2.2.2 ∈ tb ∧ Cond.selects K.1 K.2.2.2.2.2 K.2.2.2.2.2 ∈ tb ∧ Cond.initialized K.1 ∈ tb) ∧ K.2.2.2.2.2.cls = K.1 ∧ K.2.2.2.2.2.cls ≠ "java/lang/invoke/MethodHandle" ∧ K.2.2.2.2.2.cls ≠ "java/lang/invoke/VarHandle"
def rcv (own : String) (o : Nat) : Prop := (own = R_H ∧ o = 0) ∨ (own = R_M ∧ o = 16)
theorem wd_recv {own : String} {o : Nat} (h : rcv own o) {s : State} {H : Heap} {D : va_G} {ad : Nat → Nat} {cI cZ : ClassId} {σ : SG2} (hK : va_K D classes (tys2 cI cZ) s) (hP : va_P D classes (wd ad cI cZ σ) H) : ∃ cell : Cell, H[ad o]? = some cell ∧ cell.vm.isStatics = false ∧ s.vm.findClass own = some cell.cls := by
  rcases h with ⟨rfl, rfl⟩ | ⟨rfl, rfl⟩
  · exact va_recv hK hP (ci := 0) (q0 := 0) rfl rfl
  · exact va_recv hK hP (ci := 1) (q0 := 11) rfl rfl
theorem wd_free {A : Nat → Prop} {ad : Nat → Nat} {cI cZ : ClassId} {σ : SG2} {H0 H : Heap} {locs : List Loc} (hD : va_D A (wd ad cI cZ σ)) (hS : va_S A H0 H locs) (hA : ∀ q : Nat, H0.size ≤ q → A q) : ∀ q, va_A (wd ad cI cZ σ) H.size q → A q := by
  intro q hq
  rcases hq with ⟨k, e, hk⟩ | hq
  · exact hD.2 k _ hk
  · exact hA q (Nat.le_trans hS.1 hq)
/-- the row of a call, from any machine context -/
theorem W_call {K' : MD} {p : Program} {l : Launch} {e : Env} {R : Room} {s : State} {m : MethodId} {args : Array Value} {below : List Frame} {meth : Method} {c : Code} {H : Heap} {locs : List Loc} {cells slots : Nat} {Q : State → Prop} {cc : ByteArray} {nL : Nat} {own : String} {D : va_G} {ad : Nat → Nat} {cI cZ : ClassId} {A : Nat → Prop} {σ σ1 : SG2} {r1 : Option Int32} {o idx n pc : Nat} {As : List PV} {rest : List Value} {ls : Array Slot}
    (hc : CF K' (.inr o :: As) σ r1 σ1) (hok : OKc K') (hlk : Cond.methodLink own idx K'.2.2.2.2.2 ∈ tb) (hpar : (parseMethodDescriptor K'.2.2.2.2.2.desc).map (fun d => d.parameters.length) = some n) (ho : rcv K'.1 o) (hlen : As.length = n)
    (hR : K'.2.2.2.2.1 + 1 ≤ R.frames ∧ 8 + (K'.2.2.1 + 11) + 30 * K'.2.2.2.2.1 ≤ R.locals) (hcs : cells ≤ R.cells ∧ slots ≤ R.slots)
    (hx : p.tables.exec = Jvm.exec) (hb : c.code = cc) (hml : c.maxLocals = nL) (hown : s.vm.findClass own = some m.cls) (hts : ∀ w ∈ tb, w.before args s = true) (hK : va_K D classes (tys2 cI cZ) s) (hA : ∀ q : Nat, s.heap.size ≤ q → A q) (hP : va_P D classes (wd ad cI cZ σ) H) (hD : va_D A (wd ad cI cZ σ)) (hS : va_S A s.heap H locs) (hsz : ls.size = nL)
    (hrest : (rest.map fun v => v.category).sum ≤ 8) (hd : decode cc pc = .ok (.invokevirtual idx, 3))
    (kk : ∀ (H1 : Heap) (locs1 : List Loc), va_P D classes (wd ad cI cZ σ1) H1 → va_D A (wd ad cI cZ σ1) → va_S A s.heap H1 locs1 → W p l e R s m args below meth c H1 locs1 cells slots Q (F0 m (pc + 3) ls ((r1.map Value.int).toList ++ rest))) :
    W p l e R s m args below meth c H locs cells slots Q (F0 m pc ls ((As.map (tv ad)).reverse ++ .ref (ad o) :: rest)) := by
  obtain ⟨⟨w1, w2, w3, w4⟩, hcls, hn1, hn2⟩ := hok
  have hFc := wd_free hD hS hA
  have hG : GoodIn tb (wsV own idx K'.1 K'.2.2.2.2.2 (.code K'.2.2.2.2.2 K'.2.1 K'.2.2.1 K'.2.2.2.1 :: tb)) := by
    intro w hw
    have hm : w ∈ tb := by
      simp only [wsV, List.mem_append, List.mem_cons, List.not_mem_nil, or_false] at hw
      rcases hw with (rfl | rfl | rfl | rfl) | rfl | hw
      · exact hlk
      · exact w2
      · exact w3
      · exact w4
      · exact w1
      · exact hw
    exact ⟨hm, good_of_word (lw_good w hm)⟩
  have hrun := va_runV (p := p) (l := l) (e := e) (R := R) (s := s) (m := m) (args := args) (below := below) (meth := meth) (c := c) (H := H) (locs := locs) (cells := cells) (slots := slots) (g := F0 m pc ls ((As.map (tv ad)).reverse ++ .ref (ad o) :: rest)) (As := As.map (tv ad)) (rest := rest) ⟨hx, hb, hml, hown, hts⟩ (hc l D cI cZ ad H.size) (cwV n hts hG rfl rfl rfl ⟨hcls, hn1, hn2, hpar⟩ ⟨hR.1, hR.2⟩)
    ⟨fun a U g mk q => by obtain ⟨q0, q1, qP, qK, qD⟩ := q; exact ⟨q0, q1, qP, va_K.moved (u := U) (U := U.calling g mk a) (Vm.Alike.refl U.vm) qK, qD⟩, wd_recv ho hK hP, fun U hU hW => ⟨rfl, by rw [hU], by rw [hU]; exact hP, va_K.moved hW.alike hK, hD.weaken (fun _ _ _ _ => trivial)⟩⟩ rfl (by rw [List.length_map]; exact hlen) hsz rfl (lv_room hrest) hd ⟨hcs.1, hcs.2⟩
  intro T hT X
  obtain ⟨v, st₀, t, T', Lc, h0, X', hL, e1, e2, ⟨⟨hv, hw⟩, hz, hk⟩, stp⟩ := hrun T hT X
  cases hv
  rw [h0] at hz hk
  obtain ⟨hP1, hK1, hD1⟩ := hw
  obtain ⟨t2, a1, b1⟩ := kk T'.heap (locs ++ Lc) (by rw [e1]; exact hP1) (hD1.weaken (fun _ q _ h => hFc q.1 h))
    ⟨Nat.le_trans hS.1 (by rw [e1]; exact hz), fun q h1 h2 => by rw [e1, hk q (Nat.lt_of_lt_of_le h1 hS.1) (fun z => h2 (hFc q z))]; exact hS.2.1 q h1 h2, fun q hq => by
      rcases List.mem_append.mp hq with h | h
      · exact hS.2.2 q h
      · exact hFc _ (hL q h)⟩ T' rfl X'
  exact ⟨t2, stp t2 a1, b1⟩
/-- the row of a call within a walk -/
theorem P_call {K K' : MD} {r r1 : Option Int32} {τ σ σ1 : SG2} {pc o idx n : Nat} {L : List (Option PV)} {stk st st1 : List PV} {As : List PV} (hc : CF K' (.inr o :: As) σ r1 σ1) (hok : OKc K') (hlk : Cond.methodLink K.1 idx K'.2.2.2.2.2 ∈ tb) (hpar : (parseMethodDescriptor K'.2.2.2.2.2.desc).map (fun d => d.parameters.length) = some n) (hd : decode K.2.1 pc = .ok (.invokevirtual idx, 3)) (ho : rcv K'.1 o) (hlen : As.length = n) (hstk : stk = As.reverse ++ .inr o :: st) (hst1 : (match r1 with | some v => (Sum.inl v : PV) :: st | none => st) = st1)
    (hR : K'.2.2.2.2.1 + 1 ≤ K.2.2.2.2.1) (hR2 : 8 + (K'.2.2.1 + 11) ≤ 30) (hr : st.length ≤ 8) (h : PW K r τ (pc + 3) L st1 σ1) : PW K r τ pc L stk σ := by
  subst hstk; subst hst1
  intro p l e s m args below meth c D ad cI cZ A H locs ls X hP hD hS hl
  obtain ⟨hx, hb, hr1, hml, hown, hlk1, hts, hK, hA⟩ := id X
  have hcat : ((st.map (tv ad)).map fun v => v.category).sum ≤ 8 := by
    have : ((st.map (tv ad)).map fun v => v.category).sum = st.length := by
      clear hr h
      induction st with
      | nil => rfl
      | cons v vs ih => simp only [List.map_cons, List.sum_cons, tv_cat, List.length_cons, ih]; omega
    omega
  have g := W_call (K' := K') (p := p) (l := l) (e := e) (R := rmD K.2.2.2.2.1) (s := s) (m := m) (args := args) (below := below) (meth := meth) (c := c) (H := H) (locs := locs) (cells := 0) (slots := 0) (Q := MQ below (QM D ad cI cZ A r τ) args s 0 0 A) (pc := pc) (rest := st.map (tv ad)) hc hok hlk hpar ho hlen ⟨hR, by show _ ≤ 30 * _; omega⟩ ⟨Nat.le_refl _, Nat.le_refl _⟩ hx hb hml hown hts hK hA hP hD hS hl.1 hcat hd (fun H1 locs1 hP1 hD1 hS1 => by
    have k := h p l e s m args below meth c D ad cI cZ A H1 locs1 ls X hP1 hD1 hS1 hl
    cases r1 <;> exact k)
  rw [List.map_append, List.map_reverse, List.map_cons]
  exact g
theorem g_H_length {K : MD} {r : Option Int32} {τ : SG2} {σ μ : SG} {pc : Nat} {L : List (Option PV)} {st : List PV} (hd : decode K.2.1 pc = .ok (.getfield 49, 3)) (h : PW K r τ (pc + 3) L (.inl (σ 0 0) :: st) (σ, μ)) (ho : K.1 = R_H := by rfl) : PW K r τ pc L (.inr 0 :: st) (σ, μ) := by
  intro p l e s m args below meth c D ad cI cZ A H locs ls X hP hD hS hl
  obtain ⟨hx, hb, hr, hml, hown, hlk, hts, hK, hA⟩ := id X
  rw [ho] at hown
  exact va_get (D := D) (ci := 0) (v := .int (σ 0 0)) (C := R_H) (T := F_H) (N := 16) hx hb hts i_H hown hK hP 0 rfl rfl 0 (by decide) (hts (.fieldLink R_H 49 "DetourHooker" "length" "I") (by decide +kernel)) (fun _ h9 => h9) rfl hd (h p l e s m args below meth c D ad cI cZ A H locs ls X hP hD hS hl)
theorem s_H_length {K : MD} {r : Option Int32} {τ : SG2} {σ μ : SG} {pc : Nat} {L : List (Option PV)} {st : List PV} {v : Int32} (hd : decode K.2.1 pc = .ok (.putfield 49, 3)) (h : PW K r τ (pc + 3) L st (ss σ 0 0 v, μ)) (ho : K.1 = R_H := by rfl) : PW K r τ pc L (.inl v :: .inr 0 :: st) (σ, μ) := by
  intro p l e s m args below meth c D ad cI cZ A H locs ls X hP hD hS hl
  obtain ⟨hx, hb, hr, hml, hown, hlk, hts, hK, hA⟩ := id X
  rw [ho] at hown
  exact va_put (D := D) (ci := 0) (v := .int v) (ty := .int) (C := R_H) (T := F_H) (N := 16) hx hb hts i_H t_H t_H_ok n_H hown hK hP hD hS 0 rfl rfl 0 (by decide) (hts (.fieldLink R_H 49 "DetourHooker" "length" "I") (by decide +kernel)) (fun _ h9 => h9) rfl (by decide +kernel) rfl rfl (Nat.le_of_ble_eq_true rfl) hd (fun H1 locs1 hP1 hD1 hS1 => h p l e s m args below meth c D ad cI cZ A H1 locs1 ls X hP1 hD1 hS1 hl)
theorem g_H_plain {K : MD} {r : Option Int32} {τ : SG2} {σ μ : SG} {pc : Nat} {L : List (Option PV)} {st : List PV} (hd : decode K.2.1 pc = .ok (.getfield 7, 3)) (h : PW K r τ (pc + 3) L (.inr 1 :: st) (σ, μ)) (ho : K.1 = R_H := by rfl) : PW K r τ pc L (.inr 0 :: st) (σ, μ) := by
  intro p l e s m args below meth c D ad cI cZ A H locs ls X hP hD hS hl
  obtain ⟨hx, hb, hr, hml, hown, hlk, hts, hK, hA⟩ := id X
  rw [ho] at hown
  exact va_get (D := D) (ci := 0) (v := .ref (ad 1)) (C := R_H) (T := F_H) (N := 16) hx hb hts i_H hown hK hP 0 rfl rfl 1 (by decide) (hts (.fieldLink R_H 7 "DetourHooker" "plain" "[I") (by decide +kernel)) (fun _ h9 => h9) rfl hd (h p l e s m args below meth c D ad cI cZ A H locs ls X hP hD hS hl)
theorem g_H_code {K : MD} {r : Option Int32} {τ : SG2} {σ μ : SG} {pc : Nat} {L : List (Option PV)} {st : List PV} (hd : decode K.2.1 pc = .ok (.getfield 13, 3)) (h : PW K r τ (pc + 3) L (.inr 2 :: st) (σ, μ)) (ho : K.1 = R_H := by rfl) : PW K r τ pc L (.inr 0 :: st) (σ, μ) := by
  intro p l e s m args below meth c D ad cI cZ A H locs ls X hP hD hS hl
  obtain ⟨hx, hb, hr, hml, hown, hlk, hts, hK, hA⟩ := id X
  rw [ho] at hown
  exact va_get (D := D) (ci := 0) (v := .ref (ad 2)) (C := R_H) (T := F_H) (N := 16) hx hb hts i_H hown hK hP 0 rfl rfl 2 (by decide) (hts (.fieldLink R_H 13 "DetourHooker" "code" "[I") (by decide +kernel)) (fun _ h9 => h9) rfl hd (h p l e s m args below meth c D ad cI cZ A H locs ls X hP hD hS hl)
theorem g_H_starts {K : MD} {r : Option Int32} {τ : SG2} {σ μ : SG} {pc : Nat} {L : List (Option PV)} {st : List PV} (hd : decode K.2.1 pc = .ok (.getfield 16, 3)) (h : PW K r τ (pc + 3) L (.inr 3 :: st) (σ, μ)) (ho : K.1 = R_H := by rfl) : PW K r τ pc L (.inr 0 :: st) (σ, μ) := by
  intro p l e s m args below meth c D ad cI cZ A H locs ls X hP hD hS hl
  obtain ⟨hx, hb, hr, hml, hown, hlk, hts, hK, hA⟩ := id X
  rw [ho] at hown
  exact va_get (D := D) (ci := 0) (v := .ref (ad 3)) (C := R_H) (T := F_H) (N := 16) hx hb hts i_H hown hK hP 0 rfl rfl 3 (by decide) (hts (.fieldLink R_H 16 "DetourHooker" "starts" "[Z") (by decide +kernel)) (fun _ h9 => h9) rfl hd (h p l e s m args below meth c D ad cI cZ A H locs ls X hP hD hS hl)
theorem g_H_moved {K : MD} {r : Option Int32} {τ : SG2} {σ μ : SG} {pc : Nat} {L : List (Option PV)} {st : List PV} (hd : decode K.2.1 pc = .ok (.getfield 20, 3)) (h : PW K r τ (pc + 3) L (.inr 4 :: st) (σ, μ)) (ho : K.1 = R_H := by rfl) : PW K r τ pc L (.inr 0 :: st) (σ, μ) := by
  intro p l e s m args below meth c D ad cI cZ A H locs ls X hP hD hS hl
  obtain ⟨hx, hb, hr, hml, hown, hlk, hts, hK, hA⟩ := id X
  rw [ho] at hown
  exact va_get (D := D) (ci := 0) (v := .ref (ad 4)) (C := R_H) (T := F_H) (N := 16) hx hb hts i_H hown hK hP 0 rfl rfl 4 (by decide) (hts (.fieldLink R_H 20 "DetourHooker" "moved" "[I") (by decide +kernel)) (fun _ h9 => h9) rfl hd (h p l e s m args below meth c D ad cI cZ A H locs ls X hP hD hS hl)
theorem g_H_area {K : MD} {r : Option Int32} {τ : SG2} {σ μ : SG} {pc : Nat} {L : List (Option PV)} {st : List PV} (hd : decode K.2.1 pc = .ok (.getfield 23, 3)) (h : PW K r τ (pc + 3) L (.inr 5 :: st) (σ, μ)) (ho : K.1 = R_H := by rfl) : PW K r τ pc L (.inr 0 :: st) (σ, μ) := by
  intro p l e s m args below meth c D ad cI cZ A H locs ls X hP hD hS hl
  obtain ⟨hx, hb, hr, hml, hown, hlk, hts, hK, hA⟩ := id X
  rw [ho] at hown
  exact va_get (D := D) (ci := 0) (v := .ref (ad 5)) (C := R_H) (T := F_H) (N := 16) hx hb hts i_H hown hK hP 0 rfl rfl 5 (by decide) (hts (.fieldLink R_H 23 "DetourHooker" "area" "[I") (by decide +kernel)) (fun _ h9 => h9) rfl hd (h p l e s m args below meth c D ad cI cZ A H locs ls X hP hD hS hl)
theorem g_H_writeAt {K : MD} {r : Option Int32} {τ : SG2} {σ μ : SG} {pc : Nat} {L : List (Option PV)} {st : List PV} (hd : decode K.2.1 pc = .ok (.getfield 97, 3)) (h : PW K r τ (pc + 3) L (.inl (σ 0 6) :: st) (σ, μ)) (ho : K.1 = R_H := by rfl) : PW K r τ pc L (.inr 0 :: st) (σ, μ) := by
  intro p l e s m args below meth c D ad cI cZ A H locs ls X hP hD hS hl
  obtain ⟨hx, hb, hr, hml, hown, hlk, hts, hK, hA⟩ := id X
  rw [ho] at hown
  exact va_get (D := D) (ci := 0) (v := .int (σ 0 6)) (C := R_H) (T := F_H) (N := 16) hx hb hts i_H hown hK hP 0 rfl rfl 6 (by decide) (hts (.fieldLink R_H 97 "DetourHooker" "writeAt" "I") (by decide +kernel)) (fun _ h9 => h9) rfl hd (h p l e s m args below meth c D ad cI cZ A H locs ls X hP hD hS hl)
theorem s_H_writeAt {K : MD} {r : Option Int32} {τ : SG2} {σ μ : SG} {pc : Nat} {L : List (Option PV)} {st : List PV} {v : Int32} (hd : decode K.2.1 pc = .ok (.putfield 97, 3)) (h : PW K r τ (pc + 3) L st (ss σ 0 6 v, μ)) (ho : K.1 = R_H := by rfl) : PW K r τ pc L (.inl v :: .inr 0 :: st) (σ, μ) := by
  intro p l e s m args below meth c D ad cI cZ A H locs ls X hP hD hS hl
  obtain ⟨hx, hb, hr, hml, hown, hlk, hts, hK, hA⟩ := id X
  rw [ho] at hown
  exact va_put (D := D) (ci := 0) (v := .int v) (ty := .int) (C := R_H) (T := F_H) (N := 16) hx hb hts i_H t_H t_H_ok n_H hown hK hP hD hS 0 rfl rfl 6 (by decide) (hts (.fieldLink R_H 97 "DetourHooker" "writeAt" "I") (by decide +kernel)) (fun _ h9 => h9) rfl (by decide +kernel) rfl rfl (Nat.le_of_ble_eq_true rfl) hd (fun H1 locs1 hP1 hD1 hS1 => h p l e s m args below meth c D ad cI cZ A H1 locs1 ls X hP1 hD1 hS1 hl)
theorem g_H_hookAt {K : MD} {r : Option Int32} {τ : SG2} {σ μ : SG} {pc : Nat} {L : List (Option PV)} {st : List PV} (hd : decode K.2.1 pc = .ok (.getfield 26, 3)) (h : PW K r τ (pc + 3) L (.inr 7 :: st) (σ, μ)) (ho : K.1 = R_H := by rfl) : PW K r τ pc L (.inr 0 :: st) (σ, μ) := by
  intro p l e s m args below meth c D ad cI cZ A H locs ls X hP hD hS hl
  obtain ⟨hx, hb, hr, hml, hown, hlk, hts, hK, hA⟩ := id X
  rw [ho] at hown
  exact va_get (D := D) (ci := 0) (v := .ref (ad 7)) (C := R_H) (T := F_H) (N := 16) hx hb hts i_H hown hK hP 0 rfl rfl 7 (by decide) (hts (.fieldLink R_H 26 "DetourHooker" "hookAt" "[I") (by decide +kernel)) (fun _ h9 => h9) rfl hd (h p l e s m args below meth c D ad cI cZ A H locs ls X hP hD hS hl)
theorem g_H_headLength {K : MD} {r : Option Int32} {τ : SG2} {σ μ : SG} {pc : Nat} {L : List (Option PV)} {st : List PV} (hd : decode K.2.1 pc = .ok (.getfield 29, 3)) (h : PW K r τ (pc + 3) L (.inr 8 :: st) (σ, μ)) (ho : K.1 = R_H := by rfl) : PW K r τ pc L (.inr 0 :: st) (σ, μ) := by
  intro p l e s m args below meth c D ad cI cZ A H locs ls X hP hD hS hl
  obtain ⟨hx, hb, hr, hml, hown, hlk, hts, hK, hA⟩ := id X
  rw [ho] at hown
  exact va_get (D := D) (ci := 0) (v := .ref (ad 8)) (C := R_H) (T := F_H) (N := 16) hx hb hts i_H hown hK hP 0 rfl rfl 8 (by decide) (hts (.fieldLink R_H 29 "DetourHooker" "headLength" "[I") (by decide +kernel)) (fun _ h9 => h9) rfl hd (h p l e s m args below meth c D ad cI cZ A H locs ls X hP hD hS hl)
theorem g_H_count {K : MD} {r : Option Int32} {τ : SG2} {σ μ : SG} {pc : Nat} {L : List (Option PV)} {st : List PV} (hd : decode K.2.1 pc = .ok (.getfield 32, 3)) (h : PW K r τ (pc + 3) L (.inr 9 :: st) (σ, μ)) (ho : K.1 = R_H := by rfl) : PW K r τ pc L (.inr 0 :: st) (σ, μ) := by
  intro p l e s m args below meth c D ad cI cZ A H locs ls X hP hD hS hl
  obtain ⟨hx, hb, hr, hml, hown, hlk, hts, hK, hA⟩ := id X
  rw [ho] at hown
  exact va_get (D := D) (ci := 0) (v := .ref (ad 9)) (C := R_H) (T := F_H) (N := 16) hx hb hts i_H hown hK hP 0 rfl rfl 9 (by decide) (hts (.fieldLink R_H 32 "DetourHooker" "count" "[I") (by decide +kernel)) (fun _ h9 => h9) rfl hd (h p l e s m args below meth c D ad cI cZ A H locs ls X hP hD hS hl)
theorem g_H_reg {K : MD} {r : Option Int32} {τ : SG2} {σ μ : SG} {pc : Nat} {L : List (Option PV)} {st : List PV} (hd : decode K.2.1 pc = .ok (.getfield 35, 3)) (h : PW K r τ (pc + 3) L (.inr 10 :: st) (σ, μ)) (ho : K.1 = R_H := by rfl) : PW K r τ pc L (.inr 0 :: st) (σ, μ) := by
  intro p l e s m args below meth c D ad cI cZ A H locs ls X hP hD hS hl
  obtain ⟨hx, hb, hr, hml, hown, hlk, hts, hK, hA⟩ := id X
  rw [ho] at hown
  exact va_get (D := D) (ci := 0) (v := .ref (ad 10)) (C := R_H) (T := F_H) (N := 16) hx hb hts i_H hown hK hP 0 rfl rfl 10 (by decide) (hts (.fieldLink R_H 35 "DetourHooker" "reg" "[I") (by decide +kernel)) (fun _ h9 => h9) rfl hd (h p l e s m args below meth c D ad cI cZ A H locs ls X hP hD hS hl)
theorem g_H_stacked {K : MD} {r : Option Int32} {τ : SG2} {σ μ : SG} {pc : Nat} {L : List (Option PV)} {st : List PV} (hd : decode K.2.1 pc = .ok (.getfield 118, 3)) (h : PW K r τ (pc + 3) L (.inl (σ 0 11) :: st) (σ, μ)) (ho : K.1 = R_H := by rfl) : PW K r τ pc L (.inr 0 :: st) (σ, μ) := by
  intro p l e s m args below meth c D ad cI cZ A H locs ls X hP hD hS hl
  obtain ⟨hx, hb, hr, hml, hown, hlk, hts, hK, hA⟩ := id X
  rw [ho] at hown
  exact va_get (D := D) (ci := 0) (v := .int (σ 0 11)) (C := R_H) (T := F_H) (N := 16) hx hb hts i_H hown hK hP 0 rfl rfl 11 (by decide) (hts (.fieldLink R_H 118 "DetourHooker" "stacked" "I") (by decide +kernel)) (fun _ h9 => h9) rfl hd (h p l e s m args below meth c D ad cI cZ A H locs ls X hP hD hS hl)
theorem s_H_stacked {K : MD} {r : Option Int32} {τ : SG2} {σ μ : SG} {pc : Nat} {L : List (Option PV)} {st : List PV} {v : Int32} (hd : decode K.2.1 pc = .ok (.putfield 118, 3)) (h : PW K r τ (pc + 3) L st (ss σ 0 11 v, μ)) (ho : K.1 = R_H := by rfl) : PW K r τ pc L (.inl v :: .inr 0 :: st) (σ, μ) := by
  intro p l e s m args below meth c D ad cI cZ A H locs ls X hP hD hS hl
  obtain ⟨hx, hb, hr, hml, hown, hlk, hts, hK, hA⟩ := id X
  rw [ho] at hown
  exact va_put (D := D) (ci := 0) (v := .int v) (ty := .int) (C := R_H) (T := F_H) (N := 16) hx hb hts i_H t_H t_H_ok n_H hown hK hP hD hS 0 rfl rfl 11 (by decide) (hts (.fieldLink R_H 118 "DetourHooker" "stacked" "I") (by decide +kernel)) (fun _ h9 => h9) rfl (by decide +kernel) rfl rfl (Nat.le_of_ble_eq_true rfl) hd (fun H1 locs1 hP1 hD1 hS1 => h p l e s m args below meth c D ad cI cZ A H1 locs1 ls X hP1 hD1 hS1 hl)
theorem g_H_stack {K : MD} {r : Option Int32} {τ : SG2} {σ μ : SG} {pc : Nat} {L : List (Option PV)} {st : List PV} (hd : decode K.2.1 pc = .ok (.getfield 38, 3)) (h : PW K r τ (pc + 3) L (.inr 12 :: st) (σ, μ)) (ho : K.1 = R_H := by rfl) : PW K r τ pc L (.inr 0 :: st) (σ, μ) := by
  intro p l e s m args below meth c D ad cI cZ A H locs ls X hP hD hS hl
  obtain ⟨hx, hb, hr, hml, hown, hlk, hts, hK, hA⟩ := id X
  rw [ho] at hown
  exact va_get (D := D) (ci := 0) (v := .ref (ad 12)) (C := R_H) (T := F_H) (N := 16) hx hb hts i_H hown hK hP 0 rfl rfl 12 (by decide) (hts (.fieldLink R_H 38 "DetourHooker" "stack" "[I") (by decide +kernel)) (fun _ h9 => h9) rfl hd (h p l e s m args below meth c D ad cI cZ A H locs ls X hP hD hS hl)
theorem g_H_pc {K : MD} {r : Option Int32} {τ : SG2} {σ μ : SG} {pc : Nat} {L : List (Option PV)} {st : List PV} (hd : decode K.2.1 pc = .ok (.getfield 115, 3)) (h : PW K r τ (pc + 3) L (.inl (σ 0 13) :: st) (σ, μ)) (ho : K.1 = R_H := by rfl) : PW K r τ pc L (.inr 0 :: st) (σ, μ) := by
  intro p l e s m args below meth c D ad cI cZ A H locs ls X hP hD hS hl
  obtain ⟨hx, hb, hr, hml, hown, hlk, hts, hK, hA⟩ := id X
  rw [ho] at hown
  exact va_get (D := D) (ci := 0) (v := .int (σ 0 13)) (C := R_H) (T := F_H) (N := 16) hx hb hts i_H hown hK hP 0 rfl rfl 13 (by decide) (hts (.fieldLink R_H 115 "DetourHooker" "pc" "I") (by decide +kernel)) (fun _ h9 => h9) rfl hd (h p l e s m args below meth c D ad cI cZ A H locs ls X hP hD hS hl)
theorem s_H_pc {K : MD} {r : Option Int32} {τ : SG2} {σ μ : SG} {pc : Nat} {L : List (Option PV)} {st : List PV} {v : Int32} (hd : decode K.2.1 pc = .ok (.putfield 115, 3)) (h : PW K r τ (pc + 3) L st (ss σ 0 13 v, μ)) (ho : K.1 = R_H := by rfl) : PW K r τ pc L (.inl v :: .inr 0 :: st) (σ, μ) := by
  intro p l e s m args below meth c D ad cI cZ A H locs ls X hP hD hS hl
  obtain ⟨hx, hb, hr, hml, hown, hlk, hts, hK, hA⟩ := id X
  rw [ho] at hown
  exact va_put (D := D) (ci := 0) (v := .int v) (ty := .int) (C := R_H) (T := F_H) (N := 16) hx hb hts i_H t_H t_H_ok n_H hown hK hP hD hS 0 rfl rfl 13 (by decide) (hts (.fieldLink R_H 115 "DetourHooker" "pc" "I") (by decide +kernel)) (fun _ h9 => h9) rfl (by decide +kernel) rfl rfl (Nat.le_of_ble_eq_true rfl) hd (fun H1 locs1 hP1 hD1 hS1 => h p l e s m args below meth c D ad cI cZ A H1 locs1 ls X hP1 hD1 hS1 hl)
theorem g_H_done {K : MD} {r : Option Int32} {τ : SG2} {σ μ : SG} {pc : Nat} {L : List (Option PV)} {st : List PV} (hd : decode K.2.1 pc = .ok (.getfield 121, 3)) (h : PW K r τ (pc + 3) L (.inl (σ 0 14) :: st) (σ, μ)) (ho : K.1 = R_H := by rfl) : PW K r τ pc L (.inr 0 :: st) (σ, μ) := by
  intro p l e s m args below meth c D ad cI cZ A H locs ls X hP hD hS hl
  obtain ⟨hx, hb, hr, hml, hown, hlk, hts, hK, hA⟩ := id X
  rw [ho] at hown
  exact va_get (D := D) (ci := 0) (v := .int (σ 0 14)) (C := R_H) (T := F_H) (N := 16) hx hb hts i_H hown hK hP 0 rfl rfl 14 (by decide) (hts (.fieldLink R_H 121 "DetourHooker" "done" "I") (by decide +kernel)) (fun _ h9 => h9) rfl hd (h p l e s m args below meth c D ad cI cZ A H locs ls X hP hD hS hl)
theorem s_H_done {K : MD} {r : Option Int32} {τ : SG2} {σ μ : SG} {pc : Nat} {L : List (Option PV)} {st : List PV} {v : Int32} (hd : decode K.2.1 pc = .ok (.putfield 121, 3)) (h : PW K r τ (pc + 3) L st (ss σ 0 14 v, μ)) (ho : K.1 = R_H := by rfl) : PW K r τ pc L (.inl v :: .inr 0 :: st) (σ, μ) := by
  intro p l e s m args below meth c D ad cI cZ A H locs ls X hP hD hS hl
  obtain ⟨hx, hb, hr, hml, hown, hlk, hts, hK, hA⟩ := id X
  rw [ho] at hown
  exact va_put (D := D) (ci := 0) (v := .int v) (ty := .int) (C := R_H) (T := F_H) (N := 16) hx hb hts i_H t_H t_H_ok n_H hown hK hP hD hS 0 rfl rfl 14 (by decide) (hts (.fieldLink R_H 121 "DetourHooker" "done" "I") (by decide +kernel)) (fun _ h9 => h9) rfl (by decide +kernel) rfl rfl (Nat.le_of_ble_eq_true rfl) hd (fun H1 locs1 hP1 hD1 hS1 => h p l e s m args below meth c D ad cI cZ A H1 locs1 ls X hP1 hD1 hS1 hl)
theorem g_H_end {K : MD} {r : Option Int32} {τ : SG2} {σ μ : SG} {pc : Nat} {L : List (Option PV)} {st : List PV} (hd : decode K.2.1 pc = .ok (.getfield 124, 3)) (h : PW K r τ (pc + 3) L (.inl (σ 0 15) :: st) (σ, μ)) (ho : K.1 = R_H := by rfl) : PW K r τ pc L (.inr 0 :: st) (σ, μ) := by
  intro p l e s m args below meth c D ad cI cZ A H locs ls X hP hD hS hl
  obtain ⟨hx, hb, hr, hml, hown, hlk, hts, hK, hA⟩ := id X
  rw [ho] at hown
  exact va_get (D := D) (ci := 0) (v := .int (σ 0 15)) (C := R_H) (T := F_H) (N := 16) hx hb hts i_H hown hK hP 0 rfl rfl 15 (by decide) (hts (.fieldLink R_H 124 "DetourHooker" "end" "I") (by decide +kernel)) (fun _ h9 => h9) rfl hd (h p l e s m args below meth c D ad cI cZ A H locs ls X hP hD hS hl)
theorem s_H_end {K : MD} {r : Option Int32} {τ : SG2} {σ μ : SG} {pc : Nat} {L : List (Option PV)} {st : List PV} {v : Int32} (hd : decode K.2.1 pc = .ok (.putfield 124, 3)) (h : PW K r τ (pc + 3) L st (ss σ 0 15 v, μ)) (ho : K.1 = R_H := by rfl) : PW K r τ pc L (.inl v :: .inr 0 :: st) (σ, μ) := by
  intro p l e s m args below meth c D ad cI cZ A H locs ls X hP hD hS hl
  obtain ⟨hx, hb, hr, hml, hown, hlk, hts, hK, hA⟩ := id X
  rw [ho] at hown
  exact va_put (D := D) (ci := 0) (v := .int v) (ty := .int) (C := R_H) (T := F_H) (N := 16) hx hb hts i_H t_H t_H_ok n_H hown hK hP hD hS 0 rfl rfl 15 (by decide) (hts (.fieldLink R_H 124 "DetourHooker" "end" "I") (by decide +kernel)) (fun _ h9 => h9) rfl (by decide +kernel) rfl rfl (Nat.le_of_ble_eq_true rfl) hd (fun H1 locs1 hP1 hD1 hS1 => h p l e s m args below meth c D ad cI cZ A H1 locs1 ls X hP1 hD1 hS1 hl)
theorem g_M_code {K : MD} {r : Option Int32} {τ : SG2} {σ μ : SG} {pc : Nat} {L : List (Option PV)} {st : List PV} (hd : decode K.2.1 pc = .ok (.getfield 7, 3)) (h : PW K r τ (pc + 3) L (.inr 17 :: st) (σ, μ)) (ho : K.1 = R_M := by rfl) : PW K r τ pc L (.inr 16 :: st) (σ, μ) := by
  intro p l e s m args below meth c D ad cI cZ A H locs ls X hP hD hS hl
  obtain ⟨hx, hb, hr, hml, hown, hlk, hts, hK, hA⟩ := id X
  rw [ho] at hown
  exact va_get (D := D) (ci := 1) (v := .ref (ad 17)) (C := R_M) (T := F_M) (N := 11) hx hb hts i_M hown hK hP 11 rfl rfl 0 (by decide) (hts (.fieldLink R_M 7 "DetourHookerModel" "code" "[I") (by decide +kernel)) (fun _ h9 => h9) rfl hd (h p l e s m args below meth c D ad cI cZ A H locs ls X hP hD hS hl)
theorem g_M_begins {K : MD} {r : Option Int32} {τ : SG2} {σ μ : SG} {pc : Nat} {L : List (Option PV)} {st : List PV} (hd : decode K.2.1 pc = .ok (.getfield 13, 3)) (h : PW K r τ (pc + 3) L (.inr 18 :: st) (σ, μ)) (ho : K.1 = R_M := by rfl) : PW K r τ pc L (.inr 16 :: st) (σ, μ) := by
  intro p l e s m args below meth c D ad cI cZ A H locs ls X hP hD hS hl
  obtain ⟨hx, hb, hr, hml, hown, hlk, hts, hK, hA⟩ := id X
  rw [ho] at hown
  exact va_get (D := D) (ci := 1) (v := .ref (ad 18)) (C := R_M) (T := F_M) (N := 11) hx hb hts i_M hown hK hP 11 rfl rfl 1 (by decide) (hts (.fieldLink R_M 13 "DetourHookerModel" "begins" "[Z") (by decide +kernel)) (fun _ h9 => h9) rfl hd (h p l e s m args below meth c D ad cI cZ A H locs ls X hP hD hS hl)
theorem g_M_length {K : MD} {r : Option Int32} {τ : SG2} {σ μ : SG} {pc : Nat} {L : List (Option PV)} {st : List PV} (hd : decode K.2.1 pc = .ok (.getfield 33, 3)) (h : PW K r τ (pc + 3) L (.inl (μ 16 2) :: st) (σ, μ)) (ho : K.1 = R_M := by rfl) : PW K r τ pc L (.inr 16 :: st) (σ, μ) := by
  intro p l e s m args below meth c D ad cI cZ A H locs ls X hP hD hS hl
  obtain ⟨hx, hb, hr, hml, hown, hlk, hts, hK, hA⟩ := id X
  rw [ho] at hown
  exact va_get (D := D) (ci := 1) (v := .int (μ 16 2)) (C := R_M) (T := F_M) (N := 11) hx hb hts i_M hown hK hP 11 rfl rfl 2 (by decide) (hts (.fieldLink R_M 33 "DetourHookerModel" "length" "I") (by decide +kernel)) (fun _ h9 => h9) rfl hd (h p l e s m args below meth c D ad cI cZ A H locs ls X hP hD hS hl)
theorem s_M_length {K : MD} {r : Option Int32} {τ : SG2} {σ μ : SG} {pc : Nat} {L : List (Option PV)} {st : List PV} {v : Int32} (hd : decode K.2.1 pc = .ok (.putfield 33, 3)) (h : PW K r τ (pc + 3) L st (σ, ss μ 16 2 v)) (ho : K.1 = R_M := by rfl) : PW K r τ pc L (.inl v :: .inr 16 :: st) (σ, μ) := by
  intro p l e s m args below meth c D ad cI cZ A H locs ls X hP hD hS hl
  obtain ⟨hx, hb, hr, hml, hown, hlk, hts, hK, hA⟩ := id X
  rw [ho] at hown
  exact va_put (D := D) (ci := 1) (v := .int v) (ty := .int) (C := R_M) (T := F_M) (N := 11) hx hb hts i_M t_M t_M_ok n_M hown hK hP hD hS 11 rfl rfl 2 (by decide) (hts (.fieldLink R_M 33 "DetourHookerModel" "length" "I") (by decide +kernel)) (fun _ h9 => h9) rfl (by decide +kernel) rfl rfl (Nat.le_of_ble_eq_true rfl) hd (fun H1 locs1 hP1 hD1 hS1 => h p l e s m args below meth c D ad cI cZ A H1 locs1 ls X hP1 hD1 hS1 hl)
theorem g_M_registers {K : MD} {r : Option Int32} {τ : SG2} {σ μ : SG} {pc : Nat} {L : List (Option PV)} {st : List PV} (hd : decode K.2.1 pc = .ok (.getfield 17, 3)) (h : PW K r τ (pc + 3) L (.inr 20 :: st) (σ, μ)) (ho : K.1 = R_M := by rfl) : PW K r τ pc L (.inr 16 :: st) (σ, μ) := by
  intro p l e s m args below meth c D ad cI cZ A H locs ls X hP hD hS hl
  obtain ⟨hx, hb, hr, hml, hown, hlk, hts, hK, hA⟩ := id X
  rw [ho] at hown
  exact va_get (D := D) (ci := 1) (v := .ref (ad 20)) (C := R_M) (T := F_M) (N := 11) hx hb hts i_M hown hK hP 11 rfl rfl 3 (by decide) (hts (.fieldLink R_M 17 "DetourHookerModel" "registers" "[I") (by decide +kernel)) (fun _ h9 => h9) rfl hd (h p l e s m args below meth c D ad cI cZ A H locs ls X hP hD hS hl)
theorem g_M_hooked {K : MD} {r : Option Int32} {τ : SG2} {σ μ : SG} {pc : Nat} {L : List (Option PV)} {st : List PV} (hd : decode K.2.1 pc = .ok (.getfield 20, 3)) (h : PW K r τ (pc + 3) L (.inr 21 :: st) (σ, μ)) (ho : K.1 = R_M := by rfl) : PW K r τ pc L (.inr 16 :: st) (σ, μ) := by
  intro p l e s m args below meth c D ad cI cZ A H locs ls X hP hD hS hl
  obtain ⟨hx, hb, hr, hml, hown, hlk, hts, hK, hA⟩ := id X
  rw [ho] at hown
  exact va_get (D := D) (ci := 1) (v := .ref (ad 21)) (C := R_M) (T := F_M) (N := 11) hx hb hts i_M hown hK hP 11 rfl rfl 4 (by decide) (hts (.fieldLink R_M 20 "DetourHookerModel" "hooked" "[Z") (by decide +kernel)) (fun _ h9 => h9) rfl hd (h p l e s m args below meth c D ad cI cZ A H locs ls X hP hD hS hl)
theorem g_M_count {K : MD} {r : Option Int32} {τ : SG2} {σ μ : SG} {pc : Nat} {L : List (Option PV)} {st : List PV} (hd : decode K.2.1 pc = .ok (.getfield 23, 3)) (h : PW K r τ (pc + 3) L (.inr 22 :: st) (σ, μ)) (ho : K.1 = R_M := by rfl) : PW K r τ pc L (.inr 16 :: st) (σ, μ) := by
  intro p l e s m args below meth c D ad cI cZ A H locs ls X hP hD hS hl
  obtain ⟨hx, hb, hr, hml, hown, hlk, hts, hK, hA⟩ := id X
  rw [ho] at hown
  exact va_get (D := D) (ci := 1) (v := .ref (ad 22)) (C := R_M) (T := F_M) (N := 11) hx hb hts i_M hown hK hP 11 rfl rfl 5 (by decide) (hts (.fieldLink R_M 23 "DetourHookerModel" "count" "[I") (by decide +kernel)) (fun _ h9 => h9) rfl hd (h p l e s m args below meth c D ad cI cZ A H locs ls X hP hD hS hl)
theorem g_M_returns {K : MD} {r : Option Int32} {τ : SG2} {σ μ : SG} {pc : Nat} {L : List (Option PV)} {st : List PV} (hd : decode K.2.1 pc = .ok (.getfield 26, 3)) (h : PW K r τ (pc + 3) L (.inr 23 :: st) (σ, μ)) (ho : K.1 = R_M := by rfl) : PW K r τ pc L (.inr 16 :: st) (σ, μ) := by
  intro p l e s m args below meth c D ad cI cZ A H locs ls X hP hD hS hl
  obtain ⟨hx, hb, hr, hml, hown, hlk, hts, hK, hA⟩ := id X
  rw [ho] at hown
  exact va_get (D := D) (ci := 1) (v := .ref (ad 23)) (C := R_M) (T := F_M) (N := 11) hx hb hts i_M hown hK hP 11 rfl rfl 6 (by decide) (hts (.fieldLink R_M 26 "DetourHookerModel" "returns" "[I") (by decide +kernel)) (fun _ h9 => h9) rfl hd (h p l e s m args below meth c D ad cI cZ A H locs ls X hP hD hS hl)
theorem g_M_held {K : MD} {r : Option Int32} {τ : SG2} {σ μ : SG} {pc : Nat} {L : List (Option PV)} {st : List PV} (hd : decode K.2.1 pc = .ok (.getfield 71, 3)) (h : PW K r τ (pc + 3) L (.inl (μ 16 7) :: st) (σ, μ)) (ho : K.1 = R_M := by rfl) : PW K r τ pc L (.inr 16 :: st) (σ, μ) := by
  intro p l e s m args below meth c D ad cI cZ A H locs ls X hP hD hS hl
  obtain ⟨hx, hb, hr, hml, hown, hlk, hts, hK, hA⟩ := id X
  rw [ho] at hown
  exact va_get (D := D) (ci := 1) (v := .int (μ 16 7)) (C := R_M) (T := F_M) (N := 11) hx hb hts i_M hown hK hP 11 rfl rfl 7 (by decide) (hts (.fieldLink R_M 71 "DetourHookerModel" "held" "I") (by decide +kernel)) (fun _ h9 => h9) rfl hd (h p l e s m args below meth c D ad cI cZ A H locs ls X hP hD hS hl)
theorem s_M_held {K : MD} {r : Option Int32} {τ : SG2} {σ μ : SG} {pc : Nat} {L : List (Option PV)} {st : List PV} {v : Int32} (hd : decode K.2.1 pc = .ok (.putfield 71, 3)) (h : PW K r τ (pc + 3) L st (σ, ss μ 16 7 v)) (ho : K.1 = R_M := by rfl) : PW K r τ pc L (.inl v :: .inr 16 :: st) (σ, μ) := by
  intro p l e s m args below meth c D ad cI cZ A H locs ls X hP hD hS hl
  obtain ⟨hx, hb, hr, hml, hown, hlk, hts, hK, hA⟩ := id X
  rw [ho] at hown
  exact va_put (D := D) (ci := 1) (v := .int v) (ty := .int) (C := R_M) (T := F_M) (N := 11) hx hb hts i_M t_M t_M_ok n_M hown hK hP hD hS 11 rfl rfl 7 (by decide) (hts (.fieldLink R_M 71 "DetourHookerModel" "held" "I") (by decide +kernel)) (fun _ h9 => h9) rfl (by decide +kernel) rfl rfl (Nat.le_of_ble_eq_true rfl) hd (fun H1 locs1 hP1 hD1 hS1 => h p l e s m args below meth c D ad cI cZ A H1 locs1 ls X hP1 hD1 hS1 hl)
theorem g_M_at {K : MD} {r : Option Int32} {τ : SG2} {σ μ : SG} {pc : Nat} {L : List (Option PV)} {st : List PV} (hd : decode K.2.1 pc = .ok (.getfield 68, 3)) (h : PW K r τ (pc + 3) L (.inl (μ 16 8) :: st) (σ, μ)) (ho : K.1 = R_M := by rfl) : PW K r τ pc L (.inr 16 :: st) (σ, μ) := by
  intro p l e s m args below meth c D ad cI cZ A H locs ls X hP hD hS hl
  obtain ⟨hx, hb, hr, hml, hown, hlk, hts, hK, hA⟩ := id X
  rw [ho] at hown
  exact va_get (D := D) (ci := 1) (v := .int (μ 16 8)) (C := R_M) (T := F_M) (N := 11) hx hb hts i_M hown hK hP 11 rfl rfl 8 (by decide) (hts (.fieldLink R_M 68 "DetourHookerModel" "at" "I") (by decide +kernel)) (fun _ h9 => h9) rfl hd (h p l e s m args below meth c D ad cI cZ A H locs ls X hP hD hS hl)
theorem s_M_at {K : MD} {r : Option Int32} {τ : SG2} {σ μ : SG} {pc : Nat} {L : List (Option PV)} {st : List PV} {v : Int32} (hd : decode K.2.1 pc = .ok (.putfield 68, 3)) (h : PW K r τ (pc + 3) L st (σ, ss μ 16 8 v)) (ho : K.1 = R_M := by rfl) : PW K r τ pc L (.inl v :: .inr 16 :: st) (σ, μ) := by
  intro p l e s m args below meth c D ad cI cZ A H locs ls X hP hD hS hl
  obtain ⟨hx, hb, hr, hml, hown, hlk, hts, hK, hA⟩ := id X
  rw [ho] at hown
  exact va_put (D := D) (ci := 1) (v := .int v) (ty := .int) (C := R_M) (T := F_M) (N := 11) hx hb hts i_M t_M t_M_ok n_M hown hK hP hD hS 11 rfl rfl 8 (by decide) (hts (.fieldLink R_M 68 "DetourHookerModel" "at" "I") (by decide +kernel)) (fun _ h9 => h9) rfl (by decide +kernel) rfl rfl (Nat.le_of_ble_eq_true rfl) hd (fun H1 locs1 hP1 hD1 hS1 => h p l e s m args below meth c D ad cI cZ A H1 locs1 ls X hP1 hD1 hS1 hl)
theorem g_M_ending {K : MD} {r : Option Int32} {τ : SG2} {σ μ : SG} {pc : Nat} {L : List (Option PV)} {st : List PV} (hd : decode K.2.1 pc = .ok (.getfield 74, 3)) (h : PW K r τ (pc + 3) L (.inl (μ 16 9) :: st) (σ, μ)) (ho : K.1 = R_M := by rfl) : PW K r τ pc L (.inr 16 :: st) (σ, μ) := by
  intro p l e s m args below meth c D ad cI cZ A H locs ls X hP hD hS hl
  obtain ⟨hx, hb, hr, hml, hown, hlk, hts, hK, hA⟩ := id X
  rw [ho] at hown
  exact va_get (D := D) (ci := 1) (v := .int (μ 16 9)) (C := R_M) (T := F_M) (N := 11) hx hb hts i_M hown hK hP 11 rfl rfl 9 (by decide) (hts (.fieldLink R_M 74 "DetourHookerModel" "ending" "I") (by decide +kernel)) (fun _ h9 => h9) rfl hd (h p l e s m args below meth c D ad cI cZ A H locs ls X hP hD hS hl)
theorem s_M_ending {K : MD} {r : Option Int32} {τ : SG2} {σ μ : SG} {pc : Nat} {L : List (Option PV)} {st : List PV} {v : Int32} (hd : decode K.2.1 pc = .ok (.putfield 74, 3)) (h : PW K r τ (pc + 3) L st (σ, ss μ 16 9 v)) (ho : K.1 = R_M := by rfl) : PW K r τ pc L (.inl v :: .inr 16 :: st) (σ, μ) := by
  intro p l e s m args below meth c D ad cI cZ A H locs ls X hP hD hS hl
  obtain ⟨hx, hb, hr, hml, hown, hlk, hts, hK, hA⟩ := id X
  rw [ho] at hown
  exact va_put (D := D) (ci := 1) (v := .int v) (ty := .int) (C := R_M) (T := F_M) (N := 11) hx hb hts i_M t_M t_M_ok n_M hown hK hP hD hS 11 rfl rfl 9 (by decide) (hts (.fieldLink R_M 74 "DetourHookerModel" "ending" "I") (by decide +kernel)) (fun _ h9 => h9) rfl (by decide +kernel) rfl rfl (Nat.le_of_ble_eq_true rfl) hd (fun H1 locs1 hP1 hD1 hS1 => h p l e s m args below meth c D ad cI cZ A H1 locs1 ls X hP1 hD1 hS1 hl)
theorem g_M_executed {K : MD} {r : Option Int32} {τ : SG2} {σ μ : SG} {pc : Nat} {L : List (Option PV)} {st : List PV} (hd : decode K.2.1 pc = .ok (.getfield 81, 3)) (h : PW K r τ (pc + 3) L (.inl (μ 16 10) :: st) (σ, μ)) (ho : K.1 = R_M := by rfl) : PW K r τ pc L (.inr 16 :: st) (σ, μ) := by
  intro p l e s m args below meth c D ad cI cZ A H locs ls X hP hD hS hl
  obtain ⟨hx, hb, hr, hml, hown, hlk, hts, hK, hA⟩ := id X
  rw [ho] at hown
  exact va_get (D := D) (ci := 1) (v := .int (μ 16 10)) (C := R_M) (T := F_M) (N := 11) hx hb hts i_M hown hK hP 11 rfl rfl 10 (by decide) (hts (.fieldLink R_M 81 "DetourHookerModel" "executed" "I") (by decide +kernel)) (fun _ h9 => h9) rfl hd (h p l e s m args below meth c D ad cI cZ A H locs ls X hP hD hS hl)
theorem s_M_executed {K : MD} {r : Option Int32} {τ : SG2} {σ μ : SG} {pc : Nat} {L : List (Option PV)} {st : List PV} {v : Int32} (hd : decode K.2.1 pc = .ok (.putfield 81, 3)) (h : PW K r τ (pc + 3) L st (σ, ss μ 16 10 v)) (ho : K.1 = R_M := by rfl) : PW K r τ pc L (.inl v :: .inr 16 :: st) (σ, μ) := by
  intro p l e s m args below meth c D ad cI cZ A H locs ls X hP hD hS hl
  obtain ⟨hx, hb, hr, hml, hown, hlk, hts, hK, hA⟩ := id X
  rw [ho] at hown
  exact va_put (D := D) (ci := 1) (v := .int v) (ty := .int) (C := R_M) (T := F_M) (N := 11) hx hb hts i_M t_M t_M_ok n_M hown hK hP hD hS 11 rfl rfl 10 (by decide) (hts (.fieldLink R_M 81 "DetourHookerModel" "executed" "I") (by decide +kernel)) (fun _ h9 => h9) rfl (by decide +kernel) rfl rfl (Nat.le_of_ble_eq_true rfl) hd (fun H1 locs1 hP1 hD1 hS1 => h p l e s m args below meth c D ad cI cZ A H1 locs1 ls X hP1 hD1 hS1 hl)
end
section
abbrev k_H_halt : MD := (R_H, b_H_halt, 1, some .int, 2, y_H_halt)
theorem ok_H_halt : OKc k_H_halt := ⟨⟨tb_of (List.mem_of_getElem? (i := 103) (by decide +kernel)) rfl, tb_of (List.mem_of_getElem? (i := 101) (by decide +kernel)) rfl, tb_of (List.mem_of_getElem? (i := 102) (by decide +kernel)) rfl, tb_of (List.mem_of_getElem? (i := 39) (by decide +kernel)) rfl⟩, rfl, by decide +kernel, by decide +kernel⟩
theorem pr_H_halt : (parseMethodDescriptor y_H_halt.desc).map (fun d => d.parameters.length) = some 0 := by decide +kernel
abbrev k_H_append : MD := (R_H, b_H_append, 7, some .int, 1, y_H_append)
theorem ok_H_append : OKc k_H_append := ⟨⟨tb_of (List.mem_of_getElem? (i := 107) (by decide +kernel)) rfl, tb_of (List.mem_of_getElem? (i := 106) (by decide +kernel)) rfl, tb_of (List.mem_of_getElem? (i := 0) (by decide +kernel)) rfl, tb_of (List.mem_of_getElem? (i := 39) (by decide +kernel)) rfl⟩, rfl, by decide +kernel, by decide +kernel⟩
theorem pr_H_append : (parseMethodDescriptor y_H_append.desc).map (fun d => d.parameters.length) = some 3 := by decide +kernel
abbrev k_H_hooks : MD := (R_H, b_H_hooks, 3, some .int, 0, y_H_hooks)
theorem ok_H_hooks : OKc k_H_hooks := ⟨⟨tb_of (List.mem_of_getElem? (i := 111) (by decide +kernel)) rfl, tb_of (List.mem_of_getElem? (i := 109) (by decide +kernel)) rfl, tb_of (List.mem_of_getElem? (i := 110) (by decide +kernel)) rfl, tb_of (List.mem_of_getElem? (i := 39) (by decide +kernel)) rfl⟩, rfl, by decide +kernel, by decide +kernel⟩
theorem pr_H_hooks : (parseMethodDescriptor y_H_hooks.desc).map (fun d => d.parameters.length) = some 0 := by decide +kernel
abbrev k_H_lengthOf : MD := (R_H, b_H_lengthOf, 2, some .int, 0, y_H_lengthOf)
theorem ok_H_lengthOf : OKc k_H_lengthOf := ⟨⟨tb_of (List.mem_of_getElem? (i := 115) (by decide +kernel)) rfl, tb_of (List.mem_of_getElem? (i := 114) (by decide +kernel)) rfl, tb_of (List.mem_of_getElem? (i := 1) (by decide +kernel)) rfl, tb_of (List.mem_of_getElem? (i := 39) (by decide +kernel)) rfl⟩, rfl, by decide +kernel, by decide +kernel⟩
theorem pr_H_lengthOf : (parseMethodDescriptor y_H_lengthOf.desc).map (fun d => d.parameters.length) = some 1 := by decide +kernel
abbrev k_H_emit : MD := (R_H, b_H_emit, 2, none, 0, y_H_emit)
theorem ok_H_emit : OKc k_H_emit := ⟨⟨tb_of (List.mem_of_getElem? (i := 119) (by decide +kernel)) rfl, tb_of (List.mem_of_getElem? (i := 118) (by decide +kernel)) rfl, tb_of (List.mem_of_getElem? (i := 2) (by decide +kernel)) rfl, tb_of (List.mem_of_getElem? (i := 39) (by decide +kernel)) rfl⟩, rfl, by decide +kernel, by decide +kernel⟩
theorem pr_H_emit : (parseMethodDescriptor y_H_emit.desc).map (fun d => d.parameters.length) = some 1 := by decide +kernel
abbrev k_H_inc : MD := (R_H, b_H_inc, 2, some .int, 2, y_H_inc)
theorem ok_H_inc : OKc k_H_inc := ⟨⟨tb_of (List.mem_of_getElem? (i := 123) (by decide +kernel)) rfl, tb_of (List.mem_of_getElem? (i := 121) (by decide +kernel)) rfl, tb_of (List.mem_of_getElem? (i := 122) (by decide +kernel)) rfl, tb_of (List.mem_of_getElem? (i := 39) (by decide +kernel)) rfl⟩, rfl, by decide +kernel, by decide +kernel⟩
theorem pr_H_inc : (parseMethodDescriptor y_H_inc.desc).map (fun d => d.parameters.length) = some 1 := by decide +kernel
abbrev k_H_badReg : MD := (R_H, b_H_badReg, 2, some .boolean, 0, y_H_badReg)
theorem ok_H_badReg : OKc k_H_badReg := ⟨⟨tb_of (List.mem_of_getElem? (i := 127) (by decide +kernel)) rfl, tb_of (List.mem_of_getElem? (i := 126) (by decide +kernel)) rfl, tb_of (List.mem_of_getElem? (i := 3) (by decide +kernel)) rfl, tb_of (List.mem_of_getElem? (i := 39) (by decide +kernel)) rfl⟩, rfl, by decide +kernel, by decide +kernel⟩
theorem pr_H_badReg : (parseMethodDescriptor y_H_badReg.desc).map (fun d => d.parameters.length) = some 1 := by decide +kernel
abbrev k_H_dec : MD := (R_H, b_H_dec, 2, some .int, 2, y_H_dec)
theorem ok_H_dec : OKc k_H_dec := ⟨⟨tb_of (List.mem_of_getElem? (i := 131) (by decide +kernel)) rfl, tb_of (List.mem_of_getElem? (i := 129) (by decide +kernel)) rfl, tb_of (List.mem_of_getElem? (i := 130) (by decide +kernel)) rfl, tb_of (List.mem_of_getElem? (i := 39) (by decide +kernel)) rfl⟩, rfl, by decide +kernel, by decide +kernel⟩
theorem pr_H_dec : (parseMethodDescriptor y_H_dec.desc).map (fun d => d.parameters.length) = some 1 := by decide +kernel
abbrev k_H_move : MD := (R_H, b_H_move, 3, some .int, 2, y_H_move)
theorem ok_H_move : OKc k_H_move := ⟨⟨tb_of (List.mem_of_getElem? (i := 135) (by decide +kernel)) rfl, tb_of (List.mem_of_getElem? (i := 133) (by decide +kernel)) rfl, tb_of (List.mem_of_getElem? (i := 134) (by decide +kernel)) rfl, tb_of (List.mem_of_getElem? (i := 39) (by decide +kernel)) rfl⟩, rfl, by decide +kernel, by decide +kernel⟩
theorem pr_H_move : (parseMethodDescriptor y_H_move.desc).map (fun d => d.parameters.length) = some 2 := by decide +kernel
abbrev k_H_jump : MD := (R_H, b_H_jump, 3, some .int, 2, y_H_jump)
theorem ok_H_jump : OKc k_H_jump := ⟨⟨tb_of (List.mem_of_getElem? (i := 139) (by decide +kernel)) rfl, tb_of (List.mem_of_getElem? (i := 137) (by decide +kernel)) rfl, tb_of (List.mem_of_getElem? (i := 138) (by decide +kernel)) rfl, tb_of (List.mem_of_getElem? (i := 39) (by decide +kernel)) rfl⟩, rfl, by decide +kernel, by decide +kernel⟩
theorem pr_H_jump : (parseMethodDescriptor y_H_jump.desc).map (fun d => d.parameters.length) = some 1 := by decide +kernel
abbrev k_H_badTarget : MD := (R_H, b_H_badTarget, 2, some .boolean, 0, y_H_badTarget)
theorem ok_H_badTarget : OKc k_H_badTarget := ⟨⟨tb_of (List.mem_of_getElem? (i := 143) (by decide +kernel)) rfl, tb_of (List.mem_of_getElem? (i := 142) (by decide +kernel)) rfl, tb_of (List.mem_of_getElem? (i := 4) (by decide +kernel)) rfl, tb_of (List.mem_of_getElem? (i := 39) (by decide +kernel)) rfl⟩, rfl, by decide +kernel, by decide +kernel⟩
theorem pr_H_badTarget : (parseMethodDescriptor y_H_badTarget.desc).map (fun d => d.parameters.length) = some 1 := by decide +kernel
abbrev k_H_asByte : MD := (R_H, b_H_asByte, 2, some .int, 0, y_H_asByte)
theorem ok_H_asByte : OKc k_H_asByte := ⟨⟨tb_of (List.mem_of_getElem? (i := 147) (by decide +kernel)) rfl, tb_of (List.mem_of_getElem? (i := 146) (by decide +kernel)) rfl, tb_of (List.mem_of_getElem? (i := 5) (by decide +kernel)) rfl, tb_of (List.mem_of_getElem? (i := 39) (by decide +kernel)) rfl⟩, rfl, by decide +kernel, by decide +kernel⟩
theorem pr_H_asByte : (parseMethodDescriptor y_H_asByte.desc).map (fun d => d.parameters.length) = some 1 := by decide +kernel
abbrev k_H_branch : MD := (R_H, b_H_branch, 4, some .int, 2, y_H_branch)
theorem ok_H_branch : OKc k_H_branch := ⟨⟨tb_of (List.mem_of_getElem? (i := 151) (by decide +kernel)) rfl, tb_of (List.mem_of_getElem? (i := 149) (by decide +kernel)) rfl, tb_of (List.mem_of_getElem? (i := 150) (by decide +kernel)) rfl, tb_of (List.mem_of_getElem? (i := 39) (by decide +kernel)) rfl⟩, rfl, by decide +kernel, by decide +kernel⟩
theorem pr_H_branch : (parseMethodDescriptor y_H_branch.desc).map (fun d => d.parameters.length) = some 2 := by decide +kernel
abbrev k_H_call : MD := (R_H, b_H_call, 3, some .int, 2, y_H_call)
theorem ok_H_call : OKc k_H_call := ⟨⟨tb_of (List.mem_of_getElem? (i := 155) (by decide +kernel)) rfl, tb_of (List.mem_of_getElem? (i := 153) (by decide +kernel)) rfl, tb_of (List.mem_of_getElem? (i := 154) (by decide +kernel)) rfl, tb_of (List.mem_of_getElem? (i := 39) (by decide +kernel)) rfl⟩, rfl, by decide +kernel, by decide +kernel⟩
theorem pr_H_call : (parseMethodDescriptor y_H_call.desc).map (fun d => d.parameters.length) = some 1 := by decide +kernel
abbrev k_H_giveBack : MD := (R_H, b_H_giveBack, 1, some .int, 2, y_H_giveBack)
theorem ok_H_giveBack : OKc k_H_giveBack := ⟨⟨tb_of (List.mem_of_getElem? (i := 159) (by decide +kernel)) rfl, tb_of (List.mem_of_getElem? (i := 157) (by decide +kernel)) rfl, tb_of (List.mem_of_getElem? (i := 158) (by decide +kernel)) rfl, tb_of (List.mem_of_getElem? (i := 39) (by decide +kernel)) rfl⟩, rfl, by decide +kernel, by decide +kernel⟩
theorem pr_H_giveBack : (parseMethodDescriptor y_H_giveBack.desc).map (fun d => d.parameters.length) = some 0 := by decide +kernel
abbrev k_H_where : MD := (R_H, b_H_where, 2, some .int, 2, y_H_where)
theorem ok_H_where : OKc k_H_where := ⟨⟨tb_of (List.mem_of_getElem? (i := 163) (by decide +kernel)) rfl, tb_of (List.mem_of_getElem? (i := 161) (by decide +kernel)) rfl, tb_of (List.mem_of_getElem? (i := 162) (by decide +kernel)) rfl, tb_of (List.mem_of_getElem? (i := 39) (by decide +kernel)) rfl⟩, rfl, by decide +kernel, by decide +kernel⟩
theorem pr_H_where : (parseMethodDescriptor y_H_where.desc).map (fun d => d.parameters.length) = some 1 := by decide +kernel
abbrev k_H_length : MD := (R_H, b_H_length, 1, some .int, 0, y_H_length)
theorem ok_H_length : OKc k_H_length := ⟨⟨tb_of (List.mem_of_getElem? (i := 167) (by decide +kernel)) rfl, tb_of (List.mem_of_getElem? (i := 165) (by decide +kernel)) rfl, tb_of (List.mem_of_getElem? (i := 166) (by decide +kernel)) rfl, tb_of (List.mem_of_getElem? (i := 39) (by decide +kernel)) rfl⟩, rfl, by decide +kernel, by decide +kernel⟩
theorem pr_H_length : (parseMethodDescriptor y_H_length.desc).map (fun d => d.parameters.length) = some 0 := by decide +kernel
abbrev k_H_peek : MD := (R_H, b_H_peek, 2, some .int, 0, y_H_peek)
theorem ok_H_peek : OKc k_H_peek := ⟨⟨tb_of (List.mem_of_getElem? (i := 171) (by decide +kernel)) rfl, tb_of (List.mem_of_getElem? (i := 169) (by decide +kernel)) rfl, tb_of (List.mem_of_getElem? (i := 170) (by decide +kernel)) rfl, tb_of (List.mem_of_getElem? (i := 39) (by decide +kernel)) rfl⟩, rfl, by decide +kernel, by decide +kernel⟩
theorem pr_H_peek : (parseMethodDescriptor y_H_peek.desc).map (fun d => d.parameters.length) = some 1 := by decide +kernel
abbrev k_H_clear : MD := (R_H, b_H_clear, 3, some .int, 1, y_H_clear)
theorem ok_H_clear : OKc k_H_clear := ⟨⟨tb_of (List.mem_of_getElem? (i := 175) (by decide +kernel)) rfl, tb_of (List.mem_of_getElem? (i := 173) (by decide +kernel)) rfl, tb_of (List.mem_of_getElem? (i := 174) (by decide +kernel)) rfl, tb_of (List.mem_of_getElem? (i := 39) (by decide +kernel)) rfl⟩, rfl, by decide +kernel, by decide +kernel⟩
theorem pr_H_clear : (parseMethodDescriptor y_H_clear.desc).map (fun d => d.parameters.length) = some 0 := by decide +kernel
abbrev k_H_setRegister : MD := (R_H, b_H_setRegister, 3, some .int, 1, y_H_setRegister)
theorem ok_H_setRegister : OKc k_H_setRegister := ⟨⟨tb_of (List.mem_of_getElem? (i := 179) (by decide +kernel)) rfl, tb_of (List.mem_of_getElem? (i := 177) (by decide +kernel)) rfl, tb_of (List.mem_of_getElem? (i := 178) (by decide +kernel)) rfl, tb_of (List.mem_of_getElem? (i := 39) (by decide +kernel)) rfl⟩, rfl, by decide +kernel, by decide +kernel⟩
theorem pr_H_setRegister : (parseMethodDescriptor y_H_setRegister.desc).map (fun d => d.parameters.length) = some 2 := by decide +kernel
abbrev k_H_register : MD := (R_H, b_H_register, 2, some .int, 1, y_H_register)
theorem ok_H_register : OKc k_H_register := ⟨⟨tb_of (List.mem_of_getElem? (i := 183) (by decide +kernel)) rfl, tb_of (List.mem_of_getElem? (i := 181) (by decide +kernel)) rfl, tb_of (List.mem_of_getElem? (i := 182) (by decide +kernel)) rfl, tb_of (List.mem_of_getElem? (i := 39) (by decide +kernel)) rfl⟩, rfl, by decide +kernel, by decide +kernel⟩
theorem pr_H_register : (parseMethodDescriptor y_H_register.desc).map (fun d => d.parameters.length) = some 1 := by decide +kernel
abbrev k_H_hook : MD := (R_H, b_H_hook, 7, some .int, 4, y_H_hook)
theorem ok_H_hook : OKc k_H_hook := ⟨⟨tb_of (List.mem_of_getElem? (i := 187) (by decide +kernel)) rfl, tb_of (List.mem_of_getElem? (i := 185) (by decide +kernel)) rfl, tb_of (List.mem_of_getElem? (i := 186) (by decide +kernel)) rfl, tb_of (List.mem_of_getElem? (i := 39) (by decide +kernel)) rfl⟩, rfl, by decide +kernel, by decide +kernel⟩
theorem pr_H_hook : (parseMethodDescriptor y_H_hook.desc).map (fun d => d.parameters.length) = some 1 := by decide +kernel
abbrev k_H_slotOf : MD := (R_H, b_H_slotOf, 4, some .int, 0, y_H_slotOf)
theorem ok_H_slotOf : OKc k_H_slotOf := ⟨⟨tb_of (List.mem_of_getElem? (i := 191) (by decide +kernel)) rfl, tb_of (List.mem_of_getElem? (i := 190) (by decide +kernel)) rfl, tb_of (List.mem_of_getElem? (i := 6) (by decide +kernel)) rfl, tb_of (List.mem_of_getElem? (i := 39) (by decide +kernel)) rfl⟩, rfl, by decide +kernel, by decide +kernel⟩
theorem pr_H_slotOf : (parseMethodDescriptor y_H_slotOf.desc).map (fun d => d.parameters.length) = some 1 := by decide +kernel
abbrev k_H_isStart : MD := (R_H, b_H_isStart, 2, some .boolean, 0, y_H_isStart)
theorem ok_H_isStart : OKc k_H_isStart := ⟨⟨tb_of (List.mem_of_getElem? (i := 195) (by decide +kernel)) rfl, tb_of (List.mem_of_getElem? (i := 194) (by decide +kernel)) rfl, tb_of (List.mem_of_getElem? (i := 7) (by decide +kernel)) rfl, tb_of (List.mem_of_getElem? (i := 39) (by decide +kernel)) rfl⟩, rfl, by decide +kernel, by decide +kernel⟩
theorem pr_H_isStart : (parseMethodDescriptor y_H_isStart.desc).map (fun d => d.parameters.length) = some 1 := by decide +kernel
abbrev k_H_headOf : MD := (R_H, b_H_headOf, 4, some .int, 1, y_H_headOf)
theorem ok_H_headOf : OKc k_H_headOf := ⟨⟨tb_of (List.mem_of_getElem? (i := 199) (by decide +kernel)) rfl, tb_of (List.mem_of_getElem? (i := 198) (by decide +kernel)) rfl, tb_of (List.mem_of_getElem? (i := 8) (by decide +kernel)) rfl, tb_of (List.mem_of_getElem? (i := 39) (by decide +kernel)) rfl⟩, rfl, by decide +kernel, by decide +kernel⟩
theorem pr_H_headOf : (parseMethodDescriptor y_H_headOf.desc).map (fun d => d.parameters.length) = some 1 := by decide +kernel
abbrev k_H_meetsHead : MD := (R_H, b_H_meetsHead, 5, some .boolean, 0, y_H_meetsHead)
theorem ok_H_meetsHead : OKc k_H_meetsHead := ⟨⟨tb_of (List.mem_of_getElem? (i := 203) (by decide +kernel)) rfl, tb_of (List.mem_of_getElem? (i := 202) (by decide +kernel)) rfl, tb_of (List.mem_of_getElem? (i := 9) (by decide +kernel)) rfl, tb_of (List.mem_of_getElem? (i := 39) (by decide +kernel)) rfl⟩, rfl, by decide +kernel, by decide +kernel⟩
theorem pr_H_meetsHead : (parseMethodDescriptor y_H_meetsHead.desc).map (fun d => d.parameters.length) = some 2 := by decide +kernel
abbrev k_H_aimedInside : MD := (R_H, b_H_aimedInside, 6, some .boolean, 2, y_H_aimedInside)
theorem ok_H_aimedInside : OKc k_H_aimedInside := ⟨⟨tb_of (List.mem_of_getElem? (i := 207) (by decide +kernel)) rfl, tb_of (List.mem_of_getElem? (i := 206) (by decide +kernel)) rfl, tb_of (List.mem_of_getElem? (i := 10) (by decide +kernel)) rfl, tb_of (List.mem_of_getElem? (i := 39) (by decide +kernel)) rfl⟩, rfl, by decide +kernel, by decide +kernel⟩
theorem pr_H_aimedInside : (parseMethodDescriptor y_H_aimedInside.desc).map (fun d => d.parameters.length) = some 2 := by decide +kernel
abbrev k_H_targetOf : MD := (R_H, b_H_targetOf, 6, some .int, 1, y_H_targetOf)
theorem ok_H_targetOf : OKc k_H_targetOf := ⟨⟨tb_of (List.mem_of_getElem? (i := 211) (by decide +kernel)) rfl, tb_of (List.mem_of_getElem? (i := 210) (by decide +kernel)) rfl, tb_of (List.mem_of_getElem? (i := 11) (by decide +kernel)) rfl, tb_of (List.mem_of_getElem? (i := 39) (by decide +kernel)) rfl⟩, rfl, by decide +kernel, by decide +kernel⟩
theorem pr_H_targetOf : (parseMethodDescriptor y_H_targetOf.desc).map (fun d => d.parameters.length) = some 1 := by decide +kernel
abbrev k_H_displace : MD := (R_H, b_H_displace, 6, none, 3, y_H_displace)
theorem ok_H_displace : OKc k_H_displace := ⟨⟨tb_of (List.mem_of_getElem? (i := 215) (by decide +kernel)) rfl, tb_of (List.mem_of_getElem? (i := 214) (by decide +kernel)) rfl, tb_of (List.mem_of_getElem? (i := 12) (by decide +kernel)) rfl, tb_of (List.mem_of_getElem? (i := 39) (by decide +kernel)) rfl⟩, rfl, by decide +kernel, by decide +kernel⟩
theorem pr_H_displace : (parseMethodDescriptor y_H_displace.desc).map (fun d => d.parameters.length) = some 3 := by decide +kernel
abbrev k_H_put : MD := (R_H, b_H_put, 2, none, 0, y_H_put)
theorem ok_H_put : OKc k_H_put := ⟨⟨tb_of (List.mem_of_getElem? (i := 219) (by decide +kernel)) rfl, tb_of (List.mem_of_getElem? (i := 218) (by decide +kernel)) rfl, tb_of (List.mem_of_getElem? (i := 13) (by decide +kernel)) rfl, tb_of (List.mem_of_getElem? (i := 39) (by decide +kernel)) rfl⟩, rfl, by decide +kernel, by decide +kernel⟩
theorem pr_H_put : (parseMethodDescriptor y_H_put.desc).map (fun d => d.parameters.length) = some 1 := by decide +kernel
abbrev k_H_relocate : MD := (R_H, b_H_relocate, 4, none, 2, y_H_relocate)
theorem ok_H_relocate : OKc k_H_relocate := ⟨⟨tb_of (List.mem_of_getElem? (i := 223) (by decide +kernel)) rfl, tb_of (List.mem_of_getElem? (i := 222) (by decide +kernel)) rfl, tb_of (List.mem_of_getElem? (i := 14) (by decide +kernel)) rfl, tb_of (List.mem_of_getElem? (i := 39) (by decide +kernel)) rfl⟩, rfl, by decide +kernel, by decide +kernel⟩
theorem pr_H_relocate : (parseMethodDescriptor y_H_relocate.desc).map (fun d => d.parameters.length) = some 1 := by decide +kernel
abbrev k_H_putAddress : MD := (R_H, b_H_putAddress, 2, none, 1, y_H_putAddress)
theorem ok_H_putAddress : OKc k_H_putAddress := ⟨⟨tb_of (List.mem_of_getElem? (i := 227) (by decide +kernel)) rfl, tb_of (List.mem_of_getElem? (i := 226) (by decide +kernel)) rfl, tb_of (List.mem_of_getElem? (i := 15) (by decide +kernel)) rfl, tb_of (List.mem_of_getElem? (i := 39) (by decide +kernel)) rfl⟩, rfl, by decide +kernel, by decide +kernel⟩
theorem pr_H_putAddress : (parseMethodDescriptor y_H_putAddress.desc).map (fun d => d.parameters.length) = some 1 := by decide +kernel
abbrev k_H_overwrite : MD := (R_H, b_H_overwrite, 6, none, 0, y_H_overwrite)
theorem ok_H_overwrite : OKc k_H_overwrite := ⟨⟨tb_of (List.mem_of_getElem? (i := 231) (by decide +kernel)) rfl, tb_of (List.mem_of_getElem? (i := 230) (by decide +kernel)) rfl, tb_of (List.mem_of_getElem? (i := 16) (by decide +kernel)) rfl, tb_of (List.mem_of_getElem? (i := 39) (by decide +kernel)) rfl⟩, rfl, by decide +kernel, by decide +kernel⟩
theorem pr_H_overwrite : (parseMethodDescriptor y_H_overwrite.desc).map (fun d => d.parameters.length) = some 3 := by decide +kernel
abbrev k_H_unhook : MD := (R_H, b_H_unhook, 4, some .int, 1, y_H_unhook)
theorem ok_H_unhook : OKc k_H_unhook := ⟨⟨tb_of (List.mem_of_getElem? (i := 235) (by decide +kernel)) rfl, tb_of (List.mem_of_getElem? (i := 233) (by decide +kernel)) rfl, tb_of (List.mem_of_getElem? (i := 234) (by decide +kernel)) rfl, tb_of (List.mem_of_getElem? (i := 39) (by decide +kernel)) rfl⟩, rfl, by decide +kernel, by decide +kernel⟩
theorem pr_H_unhook : (parseMethodDescriptor y_H_unhook.desc).map (fun d => d.parameters.length) = some 1 := by decide +kernel
abbrev k_H_calls : MD := (R_H, b_H_calls, 3, some .int, 1, y_H_calls)
theorem ok_H_calls : OKc k_H_calls := ⟨⟨tb_of (List.mem_of_getElem? (i := 239) (by decide +kernel)) rfl, tb_of (List.mem_of_getElem? (i := 237) (by decide +kernel)) rfl, tb_of (List.mem_of_getElem? (i := 238) (by decide +kernel)) rfl, tb_of (List.mem_of_getElem? (i := 39) (by decide +kernel)) rfl⟩, rfl, by decide +kernel, by decide +kernel⟩
theorem pr_H_calls : (parseMethodDescriptor y_H_calls.desc).map (fun d => d.parameters.length) = some 1 := by decide +kernel
abbrev k_H_run : MD := (R_H, b_H_run, 3, some .int, 4, y_H_run)
theorem ok_H_run : OKc k_H_run := ⟨⟨tb_of (List.mem_of_getElem? (i := 244) (by decide +kernel)) rfl, tb_of (List.mem_of_getElem? (i := 242) (by decide +kernel)) rfl, tb_of (List.mem_of_getElem? (i := 243) (by decide +kernel)) rfl, tb_of (List.mem_of_getElem? (i := 39) (by decide +kernel)) rfl⟩, rfl, by decide +kernel, by decide +kernel⟩
theorem pr_H_run : (parseMethodDescriptor y_H_run.desc).map (fun d => d.parameters.length) = some 1 := by decide +kernel
abbrev k_H_entry : MD := (R_H, b_H_entry, 5, some .int, 1, y_H_entry)
theorem ok_H_entry : OKc k_H_entry := ⟨⟨tb_of (List.mem_of_getElem? (i := 248) (by decide +kernel)) rfl, tb_of (List.mem_of_getElem? (i := 247) (by decide +kernel)) rfl, tb_of (List.mem_of_getElem? (i := 17) (by decide +kernel)) rfl, tb_of (List.mem_of_getElem? (i := 39) (by decide +kernel)) rfl⟩, rfl, by decide +kernel, by decide +kernel⟩
theorem pr_H_entry : (parseMethodDescriptor y_H_entry.desc).map (fun d => d.parameters.length) = some 1 := by decide +kernel
abbrev k_H_execute : MD := (R_H, b_H_execute, 3, none, 3, y_H_execute)
theorem ok_H_execute : OKc k_H_execute := ⟨⟨tb_of (List.mem_of_getElem? (i := 252) (by decide +kernel)) rfl, tb_of (List.mem_of_getElem? (i := 251) (by decide +kernel)) rfl, tb_of (List.mem_of_getElem? (i := 18) (by decide +kernel)) rfl, tb_of (List.mem_of_getElem? (i := 39) (by decide +kernel)) rfl⟩, rfl, by decide +kernel, by decide +kernel⟩
theorem pr_H_execute : (parseMethodDescriptor y_H_execute.desc).map (fun d => d.parameters.length) = some 0 := by decide +kernel
abbrev k_H_fetch : MD := (R_H, b_H_fetch, 3, some .int, 0, y_H_fetch)
theorem ok_H_fetch : OKc k_H_fetch := ⟨⟨tb_of (List.mem_of_getElem? (i := 256) (by decide +kernel)) rfl, tb_of (List.mem_of_getElem? (i := 255) (by decide +kernel)) rfl, tb_of (List.mem_of_getElem? (i := 19) (by decide +kernel)) rfl, tb_of (List.mem_of_getElem? (i := 39) (by decide +kernel)) rfl⟩, rfl, by decide +kernel, by decide +kernel⟩
theorem pr_H_fetch : (parseMethodDescriptor y_H_fetch.desc).map (fun d => d.parameters.length) = some 1 := by decide +kernel
abbrev k_H_fetchAddress : MD := (R_H, b_H_fetchAddress, 4, some .int, 1, y_H_fetchAddress)
theorem ok_H_fetchAddress : OKc k_H_fetchAddress := ⟨⟨tb_of (List.mem_of_getElem? (i := 260) (by decide +kernel)) rfl, tb_of (List.mem_of_getElem? (i := 259) (by decide +kernel)) rfl, tb_of (List.mem_of_getElem? (i := 20) (by decide +kernel)) rfl, tb_of (List.mem_of_getElem? (i := 39) (by decide +kernel)) rfl⟩, rfl, by decide +kernel, by decide +kernel⟩
theorem pr_H_fetchAddress : (parseMethodDescriptor y_H_fetchAddress.desc).map (fun d => d.parameters.length) = some 1 := by decide +kernel
abbrev k_H_executeFar : MD := (R_H, b_H_executeFar, 4, none, 2, y_H_executeFar)
theorem ok_H_executeFar : OKc k_H_executeFar := ⟨⟨tb_of (List.mem_of_getElem? (i := 264) (by decide +kernel)) rfl, tb_of (List.mem_of_getElem? (i := 263) (by decide +kernel)) rfl, tb_of (List.mem_of_getElem? (i := 21) (by decide +kernel)) rfl, tb_of (List.mem_of_getElem? (i := 39) (by decide +kernel)) rfl⟩, rfl, by decide +kernel, by decide +kernel⟩
theorem pr_H_executeFar : (parseMethodDescriptor y_H_executeFar.desc).map (fun d => d.parameters.length) = some 1 := by decide +kernel
abbrev k_H_enter : MD := (R_H, b_H_enter, 3, none, 0, y_H_enter)
theorem ok_H_enter : OKc k_H_enter := ⟨⟨tb_of (List.mem_of_getElem? (i := 268) (by decide +kernel)) rfl, tb_of (List.mem_of_getElem? (i := 267) (by decide +kernel)) rfl, tb_of (List.mem_of_getElem? (i := 22) (by decide +kernel)) rfl, tb_of (List.mem_of_getElem? (i := 39) (by decide +kernel)) rfl⟩, rfl, by decide +kernel, by decide +kernel⟩
theorem pr_H_enter : (parseMethodDescriptor y_H_enter.desc).map (fun d => d.parameters.length) = some 2 := by decide +kernel
abbrev k_H_executePlain : MD := (R_H, b_H_executePlain, 7, none, 1, y_H_executePlain)
theorem ok_H_executePlain : OKc k_H_executePlain := ⟨⟨tb_of (List.mem_of_getElem? (i := 272) (by decide +kernel)) rfl, tb_of (List.mem_of_getElem? (i := 271) (by decide +kernel)) rfl, tb_of (List.mem_of_getElem? (i := 23) (by decide +kernel)) rfl, tb_of (List.mem_of_getElem? (i := 39) (by decide +kernel)) rfl⟩, rfl, by decide +kernel, by decide +kernel⟩
theorem pr_H_executePlain : (parseMethodDescriptor y_H_executePlain.desc).map (fun d => d.parameters.length) = some 1 := by decide +kernel
abbrev k_H_leave : MD := (R_H, b_H_leave, 1, none, 0, y_H_leave)
theorem ok_H_leave : OKc k_H_leave := ⟨⟨tb_of (List.mem_of_getElem? (i := 276) (by decide +kernel)) rfl, tb_of (List.mem_of_getElem? (i := 275) (by decide +kernel)) rfl, tb_of (List.mem_of_getElem? (i := 24) (by decide +kernel)) rfl, tb_of (List.mem_of_getElem? (i := 39) (by decide +kernel)) rfl⟩, rfl, by decide +kernel, by decide +kernel⟩
theorem pr_H_leave : (parseMethodDescriptor y_H_leave.desc).map (fun d => d.parameters.length) = some 0 := by decide +kernel
abbrev k_H_signed : MD := (R_H, b_H_signed, 2, some .int, 0, y_H_signed)
theorem ok_H_signed : OKc k_H_signed := ⟨⟨tb_of (List.mem_of_getElem? (i := 280) (by decide +kernel)) rfl, tb_of (List.mem_of_getElem? (i := 279) (by decide +kernel)) rfl, tb_of (List.mem_of_getElem? (i := 25) (by decide +kernel)) rfl, tb_of (List.mem_of_getElem? (i := 39) (by decide +kernel)) rfl⟩, rfl, by decide +kernel, by decide +kernel⟩
theorem pr_H_signed : (parseMethodDescriptor y_H_signed.desc).map (fun d => d.parameters.length) = some 1 := by decide +kernel
abbrev k_H_change : MD := (R_H, b_H_change, 5, none, 0, y_H_change)
theorem ok_H_change : OKc k_H_change := ⟨⟨tb_of (List.mem_of_getElem? (i := 284) (by decide +kernel)) rfl, tb_of (List.mem_of_getElem? (i := 283) (by decide +kernel)) rfl, tb_of (List.mem_of_getElem? (i := 26) (by decide +kernel)) rfl, tb_of (List.mem_of_getElem? (i := 39) (by decide +kernel)) rfl⟩, rfl, by decide +kernel, by decide +kernel⟩
theorem pr_H_change : (parseMethodDescriptor y_H_change.desc).map (fun d => d.parameters.length) = some 4 := by decide +kernel
abbrev k_H_ending : MD := (R_H, b_H_ending, 1, some .int, 0, y_H_ending)
theorem ok_H_ending : OKc k_H_ending := ⟨⟨tb_of (List.mem_of_getElem? (i := 288) (by decide +kernel)) rfl, tb_of (List.mem_of_getElem? (i := 286) (by decide +kernel)) rfl, tb_of (List.mem_of_getElem? (i := 287) (by decide +kernel)) rfl, tb_of (List.mem_of_getElem? (i := 39) (by decide +kernel)) rfl⟩, rfl, by decide +kernel, by decide +kernel⟩
theorem pr_H_ending : (parseMethodDescriptor y_H_ending.desc).map (fun d => d.parameters.length) = some 0 := by decide +kernel
abbrev k_H_executed : MD := (R_H, b_H_executed, 1, some .int, 0, y_H_executed)
theorem ok_H_executed : OKc k_H_executed := ⟨⟨tb_of (List.mem_of_getElem? (i := 292) (by decide +kernel)) rfl, tb_of (List.mem_of_getElem? (i := 290) (by decide +kernel)) rfl, tb_of (List.mem_of_getElem? (i := 291) (by decide +kernel)) rfl, tb_of (List.mem_of_getElem? (i := 39) (by decide +kernel)) rfl⟩, rfl, by decide +kernel, by decide +kernel⟩
theorem pr_H_executed : (parseMethodDescriptor y_H_executed.desc).map (fun d => d.parameters.length) = some 0 := by decide +kernel
abbrev k_M_halt : MD := (R_M, b_M_halt, 1, some .int, 2, y_M_halt)
theorem ok_M_halt : OKc k_M_halt := ⟨⟨tb_of (List.mem_of_getElem? (i := 336) (by decide +kernel)) rfl, tb_of (List.mem_of_getElem? (i := 334) (by decide +kernel)) rfl, tb_of (List.mem_of_getElem? (i := 335) (by decide +kernel)) rfl, tb_of (List.mem_of_getElem? (i := 40) (by decide +kernel)) rfl⟩, rfl, by decide +kernel, by decide +kernel⟩
theorem pr_M_halt : (parseMethodDescriptor y_M_halt.desc).map (fun d => d.parameters.length) = some 0 := by decide +kernel
abbrev k_M_append : MD := (R_M, b_M_append, 7, some .int, 1, y_M_append)
theorem ok_M_append : OKc k_M_append := ⟨⟨tb_of (List.mem_of_getElem? (i := 340) (by decide +kernel)) rfl, tb_of (List.mem_of_getElem? (i := 339) (by decide +kernel)) rfl, tb_of (List.mem_of_getElem? (i := 27) (by decide +kernel)) rfl, tb_of (List.mem_of_getElem? (i := 40) (by decide +kernel)) rfl⟩, rfl, by decide +kernel, by decide +kernel⟩
theorem pr_M_append : (parseMethodDescriptor y_M_append.desc).map (fun d => d.parameters.length) = some 4 := by decide +kernel
abbrev k_M_hooks : MD := (R_M, b_M_hooks, 3, some .int, 0, y_M_hooks)
theorem ok_M_hooks : OKc k_M_hooks := ⟨⟨tb_of (List.mem_of_getElem? (i := 344) (by decide +kernel)) rfl, tb_of (List.mem_of_getElem? (i := 342) (by decide +kernel)) rfl, tb_of (List.mem_of_getElem? (i := 343) (by decide +kernel)) rfl, tb_of (List.mem_of_getElem? (i := 40) (by decide +kernel)) rfl⟩, rfl, by decide +kernel, by decide +kernel⟩
theorem pr_M_hooks : (parseMethodDescriptor y_M_hooks.desc).map (fun d => d.parameters.length) = some 0 := by decide +kernel
abbrev k_M_inc : MD := (R_M, b_M_inc, 2, some .int, 2, y_M_inc)
theorem ok_M_inc : OKc k_M_inc := ⟨⟨tb_of (List.mem_of_getElem? (i := 348) (by decide +kernel)) rfl, tb_of (List.mem_of_getElem? (i := 346) (by decide +kernel)) rfl, tb_of (List.mem_of_getElem? (i := 347) (by decide +kernel)) rfl, tb_of (List.mem_of_getElem? (i := 40) (by decide +kernel)) rfl⟩, rfl, by decide +kernel, by decide +kernel⟩
theorem pr_M_inc : (parseMethodDescriptor y_M_inc.desc).map (fun d => d.parameters.length) = some 1 := by decide +kernel
abbrev k_M_isRegister : MD := (R_M, b_M_isRegister, 2, some .boolean, 0, y_M_isRegister)
theorem ok_M_isRegister : OKc k_M_isRegister := ⟨⟨tb_of (List.mem_of_getElem? (i := 352) (by decide +kernel)) rfl, tb_of (List.mem_of_getElem? (i := 351) (by decide +kernel)) rfl, tb_of (List.mem_of_getElem? (i := 28) (by decide +kernel)) rfl, tb_of (List.mem_of_getElem? (i := 40) (by decide +kernel)) rfl⟩, rfl, by decide +kernel, by decide +kernel⟩
theorem pr_M_isRegister : (parseMethodDescriptor y_M_isRegister.desc).map (fun d => d.parameters.length) = some 1 := by decide +kernel
abbrev k_M_dec : MD := (R_M, b_M_dec, 2, some .int, 2, y_M_dec)
theorem ok_M_dec : OKc k_M_dec := ⟨⟨tb_of (List.mem_of_getElem? (i := 356) (by decide +kernel)) rfl, tb_of (List.mem_of_getElem? (i := 354) (by decide +kernel)) rfl, tb_of (List.mem_of_getElem? (i := 355) (by decide +kernel)) rfl, tb_of (List.mem_of_getElem? (i := 40) (by decide +kernel)) rfl⟩, rfl, by decide +kernel, by decide +kernel⟩
theorem pr_M_dec : (parseMethodDescriptor y_M_dec.desc).map (fun d => d.parameters.length) = some 1 := by decide +kernel
abbrev k_M_move : MD := (R_M, b_M_move, 3, some .int, 2, y_M_move)
theorem ok_M_move : OKc k_M_move := ⟨⟨tb_of (List.mem_of_getElem? (i := 360) (by decide +kernel)) rfl, tb_of (List.mem_of_getElem? (i := 358) (by decide +kernel)) rfl, tb_of (List.mem_of_getElem? (i := 359) (by decide +kernel)) rfl, tb_of (List.mem_of_getElem? (i := 40) (by decide +kernel)) rfl⟩, rfl, by decide +kernel, by decide +kernel⟩
theorem pr_M_move : (parseMethodDescriptor y_M_move.desc).map (fun d => d.parameters.length) = some 2 := by decide +kernel
abbrev k_M_jump : MD := (R_M, b_M_jump, 2, some .int, 2, y_M_jump)
theorem ok_M_jump : OKc k_M_jump := ⟨⟨tb_of (List.mem_of_getElem? (i := 364) (by decide +kernel)) rfl, tb_of (List.mem_of_getElem? (i := 362) (by decide +kernel)) rfl, tb_of (List.mem_of_getElem? (i := 363) (by decide +kernel)) rfl, tb_of (List.mem_of_getElem? (i := 40) (by decide +kernel)) rfl⟩, rfl, by decide +kernel, by decide +kernel⟩
theorem pr_M_jump : (parseMethodDescriptor y_M_jump.desc).map (fun d => d.parameters.length) = some 1 := by decide +kernel
abbrev k_M_isTarget : MD := (R_M, b_M_isTarget, 2, some .boolean, 0, y_M_isTarget)
theorem ok_M_isTarget : OKc k_M_isTarget := ⟨⟨tb_of (List.mem_of_getElem? (i := 368) (by decide +kernel)) rfl, tb_of (List.mem_of_getElem? (i := 367) (by decide +kernel)) rfl, tb_of (List.mem_of_getElem? (i := 29) (by decide +kernel)) rfl, tb_of (List.mem_of_getElem? (i := 40) (by decide +kernel)) rfl⟩, rfl, by decide +kernel, by decide +kernel⟩
theorem pr_M_isTarget : (parseMethodDescriptor y_M_isTarget.desc).map (fun d => d.parameters.length) = some 1 := by decide +kernel
abbrev k_M_branch : MD := (R_M, b_M_branch, 3, some .int, 2, y_M_branch)
theorem ok_M_branch : OKc k_M_branch := ⟨⟨tb_of (List.mem_of_getElem? (i := 372) (by decide +kernel)) rfl, tb_of (List.mem_of_getElem? (i := 370) (by decide +kernel)) rfl, tb_of (List.mem_of_getElem? (i := 371) (by decide +kernel)) rfl, tb_of (List.mem_of_getElem? (i := 40) (by decide +kernel)) rfl⟩, rfl, by decide +kernel, by decide +kernel⟩
theorem pr_M_branch : (parseMethodDescriptor y_M_branch.desc).map (fun d => d.parameters.length) = some 2 := by decide +kernel
abbrev k_M_call : MD := (R_M, b_M_call, 2, some .int, 2, y_M_call)
theorem ok_M_call : OKc k_M_call := ⟨⟨tb_of (List.mem_of_getElem? (i := 376) (by decide +kernel)) rfl, tb_of (List.mem_of_getElem? (i := 374) (by decide +kernel)) rfl, tb_of (List.mem_of_getElem? (i := 375) (by decide +kernel)) rfl, tb_of (List.mem_of_getElem? (i := 40) (by decide +kernel)) rfl⟩, rfl, by decide +kernel, by decide +kernel⟩
theorem pr_M_call : (parseMethodDescriptor y_M_call.desc).map (fun d => d.parameters.length) = some 1 := by decide +kernel
abbrev k_M_giveBack : MD := (R_M, b_M_giveBack, 1, some .int, 2, y_M_giveBack)
theorem ok_M_giveBack : OKc k_M_giveBack := ⟨⟨tb_of (List.mem_of_getElem? (i := 380) (by decide +kernel)) rfl, tb_of (List.mem_of_getElem? (i := 378) (by decide +kernel)) rfl, tb_of (List.mem_of_getElem? (i := 379) (by decide +kernel)) rfl, tb_of (List.mem_of_getElem? (i := 40) (by decide +kernel)) rfl⟩, rfl, by decide +kernel, by decide +kernel⟩
theorem pr_M_giveBack : (parseMethodDescriptor y_M_giveBack.desc).map (fun d => d.parameters.length) = some 0 := by decide +kernel
abbrev k_M_where : MD := (R_M, b_M_where, 2, some .int, 2, y_M_where)
theorem ok_M_where : OKc k_M_where := ⟨⟨tb_of (List.mem_of_getElem? (i := 384) (by decide +kernel)) rfl, tb_of (List.mem_of_getElem? (i := 382) (by decide +kernel)) rfl, tb_of (List.mem_of_getElem? (i := 383) (by decide +kernel)) rfl, tb_of (List.mem_of_getElem? (i := 40) (by decide +kernel)) rfl⟩, rfl, by decide +kernel, by decide +kernel⟩
theorem pr_M_where : (parseMethodDescriptor y_M_where.desc).map (fun d => d.parameters.length) = some 1 := by decide +kernel
abbrev k_M_length : MD := (R_M, b_M_length, 1, some .int, 0, y_M_length)
theorem ok_M_length : OKc k_M_length := ⟨⟨tb_of (List.mem_of_getElem? (i := 388) (by decide +kernel)) rfl, tb_of (List.mem_of_getElem? (i := 386) (by decide +kernel)) rfl, tb_of (List.mem_of_getElem? (i := 387) (by decide +kernel)) rfl, tb_of (List.mem_of_getElem? (i := 40) (by decide +kernel)) rfl⟩, rfl, by decide +kernel, by decide +kernel⟩
theorem pr_M_length : (parseMethodDescriptor y_M_length.desc).map (fun d => d.parameters.length) = some 0 := by decide +kernel
abbrev k_M_peek : MD := (R_M, b_M_peek, 2, some .int, 0, y_M_peek)
theorem ok_M_peek : OKc k_M_peek := ⟨⟨tb_of (List.mem_of_getElem? (i := 392) (by decide +kernel)) rfl, tb_of (List.mem_of_getElem? (i := 390) (by decide +kernel)) rfl, tb_of (List.mem_of_getElem? (i := 391) (by decide +kernel)) rfl, tb_of (List.mem_of_getElem? (i := 40) (by decide +kernel)) rfl⟩, rfl, by decide +kernel, by decide +kernel⟩
theorem pr_M_peek : (parseMethodDescriptor y_M_peek.desc).map (fun d => d.parameters.length) = some 1 := by decide +kernel
abbrev k_M_clear : MD := (R_M, b_M_clear, 2, some .int, 1, y_M_clear)
theorem ok_M_clear : OKc k_M_clear := ⟨⟨tb_of (List.mem_of_getElem? (i := 396) (by decide +kernel)) rfl, tb_of (List.mem_of_getElem? (i := 394) (by decide +kernel)) rfl, tb_of (List.mem_of_getElem? (i := 395) (by decide +kernel)) rfl, tb_of (List.mem_of_getElem? (i := 40) (by decide +kernel)) rfl⟩, rfl, by decide +kernel, by decide +kernel⟩
theorem pr_M_clear : (parseMethodDescriptor y_M_clear.desc).map (fun d => d.parameters.length) = some 0 := by decide +kernel
abbrev k_M_setRegister : MD := (R_M, b_M_setRegister, 3, some .int, 1, y_M_setRegister)
theorem ok_M_setRegister : OKc k_M_setRegister := ⟨⟨tb_of (List.mem_of_getElem? (i := 400) (by decide +kernel)) rfl, tb_of (List.mem_of_getElem? (i := 398) (by decide +kernel)) rfl, tb_of (List.mem_of_getElem? (i := 399) (by decide +kernel)) rfl, tb_of (List.mem_of_getElem? (i := 40) (by decide +kernel)) rfl⟩, rfl, by decide +kernel, by decide +kernel⟩
theorem pr_M_setRegister : (parseMethodDescriptor y_M_setRegister.desc).map (fun d => d.parameters.length) = some 2 := by decide +kernel
abbrev k_M_register : MD := (R_M, b_M_register, 2, some .int, 1, y_M_register)
theorem ok_M_register : OKc k_M_register := ⟨⟨tb_of (List.mem_of_getElem? (i := 404) (by decide +kernel)) rfl, tb_of (List.mem_of_getElem? (i := 402) (by decide +kernel)) rfl, tb_of (List.mem_of_getElem? (i := 403) (by decide +kernel)) rfl, tb_of (List.mem_of_getElem? (i := 40) (by decide +kernel)) rfl⟩, rfl, by decide +kernel, by decide +kernel⟩
theorem pr_M_register : (parseMethodDescriptor y_M_register.desc).map (fun d => d.parameters.length) = some 1 := by decide +kernel
abbrev k_M_hook : MD := (R_M, b_M_hook, 3, some .int, 3, y_M_hook)
theorem ok_M_hook : OKc k_M_hook := ⟨⟨tb_of (List.mem_of_getElem? (i := 408) (by decide +kernel)) rfl, tb_of (List.mem_of_getElem? (i := 406) (by decide +kernel)) rfl, tb_of (List.mem_of_getElem? (i := 407) (by decide +kernel)) rfl, tb_of (List.mem_of_getElem? (i := 40) (by decide +kernel)) rfl⟩, rfl, by decide +kernel, by decide +kernel⟩
theorem pr_M_hook : (parseMethodDescriptor y_M_hook.desc).map (fun d => d.parameters.length) = some 1 := by decide +kernel
abbrev k_M_headOf : MD := (R_M, b_M_headOf, 4, some .int, 1, y_M_headOf)
theorem ok_M_headOf : OKc k_M_headOf := ⟨⟨tb_of (List.mem_of_getElem? (i := 412) (by decide +kernel)) rfl, tb_of (List.mem_of_getElem? (i := 411) (by decide +kernel)) rfl, tb_of (List.mem_of_getElem? (i := 30) (by decide +kernel)) rfl, tb_of (List.mem_of_getElem? (i := 40) (by decide +kernel)) rfl⟩, rfl, by decide +kernel, by decide +kernel⟩
theorem pr_M_headOf : (parseMethodDescriptor y_M_headOf.desc).map (fun d => d.parameters.length) = some 1 := by decide +kernel
abbrev k_M_starts : MD := (R_M, b_M_starts, 2, some .boolean, 0, y_M_starts)
theorem ok_M_starts : OKc k_M_starts := ⟨⟨tb_of (List.mem_of_getElem? (i := 416) (by decide +kernel)) rfl, tb_of (List.mem_of_getElem? (i := 415) (by decide +kernel)) rfl, tb_of (List.mem_of_getElem? (i := 31) (by decide +kernel)) rfl, tb_of (List.mem_of_getElem? (i := 40) (by decide +kernel)) rfl⟩, rfl, by decide +kernel, by decide +kernel⟩
theorem pr_M_starts : (parseMethodDescriptor y_M_starts.desc).map (fun d => d.parameters.length) = some 1 := by decide +kernel
abbrev k_M_nextOf : MD := (R_M, b_M_nextOf, 3, some .int, 0, y_M_nextOf)
theorem ok_M_nextOf : OKc k_M_nextOf := ⟨⟨tb_of (List.mem_of_getElem? (i := 420) (by decide +kernel)) rfl, tb_of (List.mem_of_getElem? (i := 419) (by decide +kernel)) rfl, tb_of (List.mem_of_getElem? (i := 32) (by decide +kernel)) rfl, tb_of (List.mem_of_getElem? (i := 40) (by decide +kernel)) rfl⟩, rfl, by decide +kernel, by decide +kernel⟩
theorem pr_M_nextOf : (parseMethodDescriptor y_M_nextOf.desc).map (fun d => d.parameters.length) = some 1 := by decide +kernel
abbrev k_M_overlaps : MD := (R_M, b_M_overlaps, 4, some .boolean, 2, y_M_overlaps)
theorem ok_M_overlaps : OKc k_M_overlaps := ⟨⟨tb_of (List.mem_of_getElem? (i := 424) (by decide +kernel)) rfl, tb_of (List.mem_of_getElem? (i := 423) (by decide +kernel)) rfl, tb_of (List.mem_of_getElem? (i := 33) (by decide +kernel)) rfl, tb_of (List.mem_of_getElem? (i := 40) (by decide +kernel)) rfl⟩, rfl, by decide +kernel, by decide +kernel⟩
theorem pr_M_overlaps : (parseMethodDescriptor y_M_overlaps.desc).map (fun d => d.parameters.length) = some 2 := by decide +kernel
abbrev k_M_isEntered : MD := (R_M, b_M_isEntered, 5, some .boolean, 2, y_M_isEntered)
theorem ok_M_isEntered : OKc k_M_isEntered := ⟨⟨tb_of (List.mem_of_getElem? (i := 428) (by decide +kernel)) rfl, tb_of (List.mem_of_getElem? (i := 427) (by decide +kernel)) rfl, tb_of (List.mem_of_getElem? (i := 34) (by decide +kernel)) rfl, tb_of (List.mem_of_getElem? (i := 40) (by decide +kernel)) rfl⟩, rfl, by decide +kernel, by decide +kernel⟩
theorem pr_M_isEntered : (parseMethodDescriptor y_M_isEntered.desc).map (fun d => d.parameters.length) = some 2 := by decide +kernel
abbrev k_M_targetOf : MD := (R_M, b_M_targetOf, 4, some .int, 1, y_M_targetOf)
theorem ok_M_targetOf : OKc k_M_targetOf := ⟨⟨tb_of (List.mem_of_getElem? (i := 432) (by decide +kernel)) rfl, tb_of (List.mem_of_getElem? (i := 431) (by decide +kernel)) rfl, tb_of (List.mem_of_getElem? (i := 35) (by decide +kernel)) rfl, tb_of (List.mem_of_getElem? (i := 40) (by decide +kernel)) rfl⟩, rfl, by decide +kernel, by decide +kernel⟩
theorem pr_M_targetOf : (parseMethodDescriptor y_M_targetOf.desc).map (fun d => d.parameters.length) = some 1 := by decide +kernel
abbrev k_M_unhook : MD := (R_M, b_M_unhook, 2, some .int, 0, y_M_unhook)
theorem ok_M_unhook : OKc k_M_unhook := ⟨⟨tb_of (List.mem_of_getElem? (i := 436) (by decide +kernel)) rfl, tb_of (List.mem_of_getElem? (i := 434) (by decide +kernel)) rfl, tb_of (List.mem_of_getElem? (i := 435) (by decide +kernel)) rfl, tb_of (List.mem_of_getElem? (i := 40) (by decide +kernel)) rfl⟩, rfl, by decide +kernel, by decide +kernel⟩
theorem pr_M_unhook : (parseMethodDescriptor y_M_unhook.desc).map (fun d => d.parameters.length) = some 1 := by decide +kernel
abbrev k_M_calls : MD := (R_M, b_M_calls, 2, some .int, 0, y_M_calls)
theorem ok_M_calls : OKc k_M_calls := ⟨⟨tb_of (List.mem_of_getElem? (i := 440) (by decide +kernel)) rfl, tb_of (List.mem_of_getElem? (i := 438) (by decide +kernel)) rfl, tb_of (List.mem_of_getElem? (i := 439) (by decide +kernel)) rfl, tb_of (List.mem_of_getElem? (i := 40) (by decide +kernel)) rfl⟩, rfl, by decide +kernel, by decide +kernel⟩
theorem pr_M_calls : (parseMethodDescriptor y_M_calls.desc).map (fun d => d.parameters.length) = some 1 := by decide +kernel
abbrev k_M_run : MD := (R_M, b_M_run, 2, some .int, 4, y_M_run)
theorem ok_M_run : OKc k_M_run := ⟨⟨tb_of (List.mem_of_getElem? (i := 445) (by decide +kernel)) rfl, tb_of (List.mem_of_getElem? (i := 443) (by decide +kernel)) rfl, tb_of (List.mem_of_getElem? (i := 444) (by decide +kernel)) rfl, tb_of (List.mem_of_getElem? (i := 40) (by decide +kernel)) rfl⟩, rfl, by decide +kernel, by decide +kernel⟩
theorem pr_M_run : (parseMethodDescriptor y_M_run.desc).map (fun d => d.parameters.length) = some 1 := by decide +kernel
abbrev k_M_execute : MD := (R_M, b_M_execute, 5, none, 3, y_M_execute)
theorem ok_M_execute : OKc k_M_execute := ⟨⟨tb_of (List.mem_of_getElem? (i := 449) (by decide +kernel)) rfl, tb_of (List.mem_of_getElem? (i := 448) (by decide +kernel)) rfl, tb_of (List.mem_of_getElem? (i := 36) (by decide +kernel)) rfl, tb_of (List.mem_of_getElem? (i := 40) (by decide +kernel)) rfl⟩, rfl, by decide +kernel, by decide +kernel⟩
theorem pr_M_execute : (parseMethodDescriptor y_M_execute.desc).map (fun d => d.parameters.length) = some 0 := by decide +kernel
abbrev k_M_goOn : MD := (R_M, b_M_goOn, 4, none, 2, y_M_goOn)
theorem ok_M_goOn : OKc k_M_goOn := ⟨⟨tb_of (List.mem_of_getElem? (i := 453) (by decide +kernel)) rfl, tb_of (List.mem_of_getElem? (i := 452) (by decide +kernel)) rfl, tb_of (List.mem_of_getElem? (i := 37) (by decide +kernel)) rfl, tb_of (List.mem_of_getElem? (i := 40) (by decide +kernel)) rfl⟩, rfl, by decide +kernel, by decide +kernel⟩
theorem pr_M_goOn : (parseMethodDescriptor y_M_goOn.desc).map (fun d => d.parameters.length) = some 2 := by decide +kernel
abbrev k_M_ending : MD := (R_M, b_M_ending, 1, some .int, 0, y_M_ending)
theorem ok_M_ending : OKc k_M_ending := ⟨⟨tb_of (List.mem_of_getElem? (i := 457) (by decide +kernel)) rfl, tb_of (List.mem_of_getElem? (i := 455) (by decide +kernel)) rfl, tb_of (List.mem_of_getElem? (i := 456) (by decide +kernel)) rfl, tb_of (List.mem_of_getElem? (i := 40) (by decide +kernel)) rfl⟩, rfl, by decide +kernel, by decide +kernel⟩
theorem pr_M_ending : (parseMethodDescriptor y_M_ending.desc).map (fun d => d.parameters.length) = some 0 := by decide +kernel
abbrev k_M_executed : MD := (R_M, b_M_executed, 1, some .int, 0, y_M_executed)
theorem ok_M_executed : OKc k_M_executed := ⟨⟨tb_of (List.mem_of_getElem? (i := 461) (by decide +kernel)) rfl, tb_of (List.mem_of_getElem? (i := 459) (by decide +kernel)) rfl, tb_of (List.mem_of_getElem? (i := 460) (by decide +kernel)) rfl, tb_of (List.mem_of_getElem? (i := 40) (by decide +kernel)) rfl⟩, rfl, by decide +kernel, by decide +kernel⟩
theorem pr_M_executed : (parseMethodDescriptor y_M_executed.desc).map (fun d => d.parameters.length) = some 0 := by decide +kernel
theorem ml_H_57 : Cond.methodLink "DetourHooker" 57 y_H_append ∈ tb := tb_of (List.mem_of_getElem? (i := 104) (by decide +kernel)) rfl
theorem ml_H_41 : Cond.methodLink "DetourHooker" 41 y_H_hooks ∈ tb := tb_of (List.mem_of_getElem? (i := 108) (by decide +kernel)) rfl
theorem ml_H_45 : Cond.methodLink "DetourHooker" 45 y_H_lengthOf ∈ tb := tb_of (List.mem_of_getElem? (i := 112) (by decide +kernel)) rfl
theorem ml_H_53 : Cond.methodLink "DetourHooker" 53 y_H_emit ∈ tb := tb_of (List.mem_of_getElem? (i := 116) (by decide +kernel)) rfl
theorem ml_H_61 : Cond.methodLink "DetourHooker" 61 y_H_badReg ∈ tb := tb_of (List.mem_of_getElem? (i := 124) (by decide +kernel)) rfl
theorem ml_H_65 : Cond.methodLink "DetourHooker" 65 y_H_badTarget ∈ tb := tb_of (List.mem_of_getElem? (i := 140) (by decide +kernel)) rfl
theorem ml_H_68 : Cond.methodLink "DetourHooker" 68 y_H_asByte ∈ tb := tb_of (List.mem_of_getElem? (i := 144) (by decide +kernel)) rfl
theorem ml_H_74 : Cond.methodLink "DetourHooker" 74 y_H_slotOf ∈ tb := tb_of (List.mem_of_getElem? (i := 188) (by decide +kernel)) rfl
theorem ml_H_77 : Cond.methodLink "DetourHooker" 77 y_H_isStart ∈ tb := tb_of (List.mem_of_getElem? (i := 192) (by decide +kernel)) rfl
theorem ml_H_80 : Cond.methodLink "DetourHooker" 80 y_H_headOf ∈ tb := tb_of (List.mem_of_getElem? (i := 196) (by decide +kernel)) rfl
theorem ml_H_83 : Cond.methodLink "DetourHooker" 83 y_H_meetsHead ∈ tb := tb_of (List.mem_of_getElem? (i := 200) (by decide +kernel)) rfl
theorem ml_H_87 : Cond.methodLink "DetourHooker" 87 y_H_aimedInside ∈ tb := tb_of (List.mem_of_getElem? (i := 204) (by decide +kernel)) rfl
theorem ml_H_90 : Cond.methodLink "DetourHooker" 90 y_H_displace ∈ tb := tb_of (List.mem_of_getElem? (i := 212) (by decide +kernel)) rfl
theorem ml_H_94 : Cond.methodLink "DetourHooker" 94 y_H_overwrite ∈ tb := tb_of (List.mem_of_getElem? (i := 228) (by decide +kernel)) rfl
theorem ml_H_71 : Cond.methodLink "DetourHooker" 71 y_H_targetOf ∈ tb := tb_of (List.mem_of_getElem? (i := 208) (by decide +kernel)) rfl
theorem ml_H_100 : Cond.methodLink "DetourHooker" 100 y_H_put ∈ tb := tb_of (List.mem_of_getElem? (i := 216) (by decide +kernel)) rfl
theorem ml_H_103 : Cond.methodLink "DetourHooker" 103 y_H_relocate ∈ tb := tb_of (List.mem_of_getElem? (i := 220) (by decide +kernel)) rfl
theorem ml_H_106 : Cond.methodLink "DetourHooker" 106 y_H_putAddress ∈ tb := tb_of (List.mem_of_getElem? (i := 224) (by decide +kernel)) rfl
theorem ml_H_112 : Cond.methodLink "DetourHooker" 112 y_H_entry ∈ tb := tb_of (List.mem_of_getElem? (i := 245) (by decide +kernel)) rfl
theorem ml_H_127 : Cond.methodLink "DetourHooker" 127 y_H_execute ∈ tb := tb_of (List.mem_of_getElem? (i := 249) (by decide +kernel)) rfl
theorem ml_H_109 : Cond.methodLink "DetourHooker" 109 y_H_fetch ∈ tb := tb_of (List.mem_of_getElem? (i := 253) (by decide +kernel)) rfl
theorem ml_H_130 : Cond.methodLink "DetourHooker" 130 y_H_fetchAddress ∈ tb := tb_of (List.mem_of_getElem? (i := 257) (by decide +kernel)) rfl
theorem ml_H_133 : Cond.methodLink "DetourHooker" 133 y_H_executeFar ∈ tb := tb_of (List.mem_of_getElem? (i := 261) (by decide +kernel)) rfl
theorem ml_H_136 : Cond.methodLink "DetourHooker" 136 y_H_executePlain ∈ tb := tb_of (List.mem_of_getElem? (i := 269) (by decide +kernel)) rfl
theorem ml_H_139 : Cond.methodLink "DetourHooker" 139 y_H_enter ∈ tb := tb_of (List.mem_of_getElem? (i := 265) (by decide +kernel)) rfl
theorem ml_H_143 : Cond.methodLink "DetourHooker" 143 y_H_leave ∈ tb := tb_of (List.mem_of_getElem? (i := 273) (by decide +kernel)) rfl
theorem ml_H_146 : Cond.methodLink "DetourHooker" 146 y_H_signed ∈ tb := tb_of (List.mem_of_getElem? (i := 277) (by decide +kernel)) rfl
theorem ml_H_149 : Cond.methodLink "DetourHooker" 149 y_H_change ∈ tb := tb_of (List.mem_of_getElem? (i := 281) (by decide +kernel)) rfl
theorem ml_M_37 : Cond.methodLink "DetourHookerModel" 37 y_M_append ∈ tb := tb_of (List.mem_of_getElem? (i := 337) (by decide +kernel)) rfl
theorem ml_M_29 : Cond.methodLink "DetourHookerModel" 29 y_M_hooks ∈ tb := tb_of (List.mem_of_getElem? (i := 341) (by decide +kernel)) rfl
theorem ml_M_41 : Cond.methodLink "DetourHookerModel" 41 y_M_isRegister ∈ tb := tb_of (List.mem_of_getElem? (i := 349) (by decide +kernel)) rfl
theorem ml_M_45 : Cond.methodLink "DetourHookerModel" 45 y_M_isTarget ∈ tb := tb_of (List.mem_of_getElem? (i := 365) (by decide +kernel)) rfl
theorem ml_M_55 : Cond.methodLink "DetourHookerModel" 55 y_M_headOf ∈ tb := tb_of (List.mem_of_getElem? (i := 409) (by decide +kernel)) rfl
theorem ml_M_61 : Cond.methodLink "DetourHookerModel" 61 y_M_overlaps ∈ tb := tb_of (List.mem_of_getElem? (i := 421) (by decide +kernel)) rfl
theorem ml_M_65 : Cond.methodLink "DetourHookerModel" 65 y_M_isEntered ∈ tb := tb_of (List.mem_of_getElem? (i := 425) (by decide +kernel)) rfl
theorem ml_M_48 : Cond.methodLink "DetourHookerModel" 48 y_M_starts ∈ tb := tb_of (List.mem_of_getElem? (i := 413) (by decide +kernel)) rfl
theorem ml_M_51 : Cond.methodLink "DetourHookerModel" 51 y_M_nextOf ∈ tb := tb_of (List.mem_of_getElem? (i := 417) (by decide +kernel)) rfl
theorem ml_M_58 : Cond.methodLink "DetourHookerModel" 58 y_M_targetOf ∈ tb := tb_of (List.mem_of_getElem? (i := 429) (by decide +kernel)) rfl
theorem ml_M_84 : Cond.methodLink "DetourHookerModel" 84 y_M_execute ∈ tb := tb_of (List.mem_of_getElem? (i := 446) (by decide +kernel)) rfl
theorem ml_M_77 : Cond.methodLink "DetourHookerModel" 77 y_M_goOn ∈ tb := tb_of (List.mem_of_getElem? (i := 450) (by decide +kernel)) rfl
theorem ml_law_13 : Cond.methodLink "DetourHookerLaw" 13 y_H_halt ∈ tb := tb_of (List.mem_of_getElem? (i := 100) (by decide +kernel)) rfl
theorem ml_law_17 : Cond.methodLink "DetourHookerLaw" 17 y_M_halt ∈ tb := tb_of (List.mem_of_getElem? (i := 333) (by decide +kernel)) rfl
theorem ml_law_18 : Cond.methodLink "DetourHookerLaw" 18 y_H_inc ∈ tb := tb_of (List.mem_of_getElem? (i := 120) (by decide +kernel)) rfl
theorem ml_law_22 : Cond.methodLink "DetourHookerLaw" 22 y_M_inc ∈ tb := tb_of (List.mem_of_getElem? (i := 345) (by decide +kernel)) rfl
theorem ml_law_23 : Cond.methodLink "DetourHookerLaw" 23 y_H_dec ∈ tb := tb_of (List.mem_of_getElem? (i := 128) (by decide +kernel)) rfl
theorem ml_law_26 : Cond.methodLink "DetourHookerLaw" 26 y_M_dec ∈ tb := tb_of (List.mem_of_getElem? (i := 353) (by decide +kernel)) rfl
theorem ml_law_27 : Cond.methodLink "DetourHookerLaw" 27 y_H_move ∈ tb := tb_of (List.mem_of_getElem? (i := 132) (by decide +kernel)) rfl
theorem ml_law_31 : Cond.methodLink "DetourHookerLaw" 31 y_M_move ∈ tb := tb_of (List.mem_of_getElem? (i := 357) (by decide +kernel)) rfl
theorem ml_law_32 : Cond.methodLink "DetourHookerLaw" 32 y_H_jump ∈ tb := tb_of (List.mem_of_getElem? (i := 136) (by decide +kernel)) rfl
theorem ml_law_35 : Cond.methodLink "DetourHookerLaw" 35 y_M_jump ∈ tb := tb_of (List.mem_of_getElem? (i := 361) (by decide +kernel)) rfl
theorem ml_law_36 : Cond.methodLink "DetourHookerLaw" 36 y_H_branch ∈ tb := tb_of (List.mem_of_getElem? (i := 148) (by decide +kernel)) rfl
theorem ml_law_39 : Cond.methodLink "DetourHookerLaw" 39 y_M_branch ∈ tb := tb_of (List.mem_of_getElem? (i := 369) (by decide +kernel)) rfl
theorem ml_law_40 : Cond.methodLink "DetourHookerLaw" 40 y_H_call ∈ tb := tb_of (List.mem_of_getElem? (i := 152) (by decide +kernel)) rfl
theorem ml_law_43 : Cond.methodLink "DetourHookerLaw" 43 y_M_call ∈ tb := tb_of (List.mem_of_getElem? (i := 373) (by decide +kernel)) rfl
theorem ml_law_44 : Cond.methodLink "DetourHookerLaw" 44 y_H_giveBack ∈ tb := tb_of (List.mem_of_getElem? (i := 156) (by decide +kernel)) rfl
theorem ml_law_47 : Cond.methodLink "DetourHookerLaw" 47 y_M_giveBack ∈ tb := tb_of (List.mem_of_getElem? (i := 377) (by decide +kernel)) rfl
theorem ml_law_48 : Cond.methodLink "DetourHookerLaw" 48 y_H_where ∈ tb := tb_of (List.mem_of_getElem? (i := 160) (by decide +kernel)) rfl
theorem ml_law_51 : Cond.methodLink "DetourHookerLaw" 51 y_M_where ∈ tb := tb_of (List.mem_of_getElem? (i := 381) (by decide +kernel)) rfl
theorem ml_law_52 : Cond.methodLink "DetourHookerLaw" 52 y_H_length ∈ tb := tb_of (List.mem_of_getElem? (i := 164) (by decide +kernel)) rfl
theorem ml_law_55 : Cond.methodLink "DetourHookerLaw" 55 y_M_length ∈ tb := tb_of (List.mem_of_getElem? (i := 385) (by decide +kernel)) rfl
theorem ml_law_56 : Cond.methodLink "DetourHookerLaw" 56 y_H_peek ∈ tb := tb_of (List.mem_of_getElem? (i := 168) (by decide +kernel)) rfl
theorem ml_law_59 : Cond.methodLink "DetourHookerLaw" 59 y_M_peek ∈ tb := tb_of (List.mem_of_getElem? (i := 389) (by decide +kernel)) rfl
theorem ml_law_60 : Cond.methodLink "DetourHookerLaw" 60 y_H_clear ∈ tb := tb_of (List.mem_of_getElem? (i := 172) (by decide +kernel)) rfl
theorem ml_law_63 : Cond.methodLink "DetourHookerLaw" 63 y_M_clear ∈ tb := tb_of (List.mem_of_getElem? (i := 393) (by decide +kernel)) rfl
theorem ml_law_64 : Cond.methodLink "DetourHookerLaw" 64 y_H_setRegister ∈ tb := tb_of (List.mem_of_getElem? (i := 176) (by decide +kernel)) rfl
theorem ml_law_67 : Cond.methodLink "DetourHookerLaw" 67 y_M_setRegister ∈ tb := tb_of (List.mem_of_getElem? (i := 397) (by decide +kernel)) rfl
theorem ml_law_68 : Cond.methodLink "DetourHookerLaw" 68 y_H_register ∈ tb := tb_of (List.mem_of_getElem? (i := 180) (by decide +kernel)) rfl
theorem ml_law_71 : Cond.methodLink "DetourHookerLaw" 71 y_M_register ∈ tb := tb_of (List.mem_of_getElem? (i := 401) (by decide +kernel)) rfl
theorem ml_law_72 : Cond.methodLink "DetourHookerLaw" 72 y_H_hook ∈ tb := tb_of (List.mem_of_getElem? (i := 184) (by decide +kernel)) rfl
theorem ml_law_75 : Cond.methodLink "DetourHookerLaw" 75 y_M_hook ∈ tb := tb_of (List.mem_of_getElem? (i := 405) (by decide +kernel)) rfl
theorem ml_law_76 : Cond.methodLink "DetourHookerLaw" 76 y_H_unhook ∈ tb := tb_of (List.mem_of_getElem? (i := 232) (by decide +kernel)) rfl
theorem ml_law_79 : Cond.methodLink "DetourHookerLaw" 79 y_M_unhook ∈ tb := tb_of (List.mem_of_getElem? (i := 433) (by decide +kernel)) rfl
theorem ml_law_80 : Cond.methodLink "DetourHookerLaw" 80 y_H_calls ∈ tb := tb_of (List.mem_of_getElem? (i := 236) (by decide +kernel)) rfl
theorem ml_law_83 : Cond.methodLink "DetourHookerLaw" 83 y_M_calls ∈ tb := tb_of (List.mem_of_getElem? (i := 437) (by decide +kernel)) rfl
theorem ml_law_84 : Cond.methodLink "DetourHookerLaw" 84 y_H_hooks ∈ tb := tb_of (List.mem_of_getElem? (i := 240) (by decide +kernel)) rfl
theorem ml_law_87 : Cond.methodLink "DetourHookerLaw" 87 y_M_hooks ∈ tb := tb_of (List.mem_of_getElem? (i := 441) (by decide +kernel)) rfl
theorem ml_law_88 : Cond.methodLink "DetourHookerLaw" 88 y_H_run ∈ tb := tb_of (List.mem_of_getElem? (i := 241) (by decide +kernel)) rfl
theorem ml_law_91 : Cond.methodLink "DetourHookerLaw" 91 y_M_run ∈ tb := tb_of (List.mem_of_getElem? (i := 442) (by decide +kernel)) rfl
theorem ml_law_92 : Cond.methodLink "DetourHookerLaw" 92 y_H_ending ∈ tb := tb_of (List.mem_of_getElem? (i := 285) (by decide +kernel)) rfl
theorem ml_law_95 : Cond.methodLink "DetourHookerLaw" 95 y_M_ending ∈ tb := tb_of (List.mem_of_getElem? (i := 454) (by decide +kernel)) rfl
theorem ml_law_96 : Cond.methodLink "DetourHookerLaw" 96 y_H_executed ∈ tb := tb_of (List.mem_of_getElem? (i := 289) (by decide +kernel)) rfl
theorem ml_law_99 : Cond.methodLink "DetourHookerLaw" 99 y_M_executed ∈ tb := tb_of (List.mem_of_getElem? (i := 458) (by decide +kernel)) rfl
theorem cl_H_append {K : MD} {r : Option Int32} {τ σ σ1 : SG2} {pc : Nat} {L : List (Option PV)} {st : List PV} {a1 a2 a3 : Int32} {r1 : Int32} (hc : CF k_H_append [.inr 0, .inl a1, .inl a2, .inl a3] σ (some r1) σ1) (hd : decode K.2.1 pc = .ok (.invokevirtual 57, 3)) (hr : st.length ≤ 8) (h : PW K r τ (pc + 3) L (.inl r1 :: st) σ1) (ho : K.1 = "DetourHooker" := by rfl) (hR : 2 ≤ K.2.2.2.2.1 := by decide) : PW K r τ pc L (.inl a3 :: .inl a2 :: .inl a1 :: .inr 0 :: st) σ :=
  P_call (As := [.inl a1, .inl a2, .inl a3]) (o := 0) hc ok_H_append (by rw [ho]; exact ml_H_57) pr_H_append hd (Or.inl ⟨rfl, rfl⟩) rfl rfl rfl hR (by decide) hr h
theorem cl_H_hooks {K : MD} {r : Option Int32} {τ σ σ1 : SG2} {pc : Nat} {L : List (Option PV)} {st : List PV} {r1 : Int32} (hc : CF k_H_hooks [.inr 0] σ (some r1) σ1) (hd : decode K.2.1 pc = .ok (.invokevirtual 41, 3)) (hr : st.length ≤ 8) (h : PW K r τ (pc + 3) L (.inl r1 :: st) σ1) (ho : K.1 = "DetourHooker" := by rfl) (hR : 1 ≤ K.2.2.2.2.1 := by decide) : PW K r τ pc L (.inr 0 :: st) σ :=
  P_call (As := []) (o := 0) hc ok_H_hooks (by rw [ho]; exact ml_H_41) pr_H_hooks hd (Or.inl ⟨rfl, rfl⟩) rfl rfl rfl hR (by decide) hr h
theorem cl_H_lengthOf {K : MD} {r : Option Int32} {τ σ σ1 : SG2} {pc : Nat} {L : List (Option PV)} {st : List PV} {a1 : Int32} {r1 : Int32} (hc : CF k_H_lengthOf [.inr 0, .inl a1] σ (some r1) σ1) (hd : decode K.2.1 pc = .ok (.invokevirtual 45, 3)) (hr : st.length ≤ 8) (h : PW K r τ (pc + 3) L (.inl r1 :: st) σ1) (ho : K.1 = "DetourHooker" := by rfl) (hR : 1 ≤ K.2.2.2.2.1 := by decide) : PW K r τ pc L (.inl a1 :: .inr 0 :: st) σ :=
  P_call (As := [.inl a1]) (o := 0) hc ok_H_lengthOf (by rw [ho]; exact ml_H_45) pr_H_lengthOf hd (Or.inl ⟨rfl, rfl⟩) rfl rfl rfl hR (by decide) hr h
theorem cl_H_emit {K : MD} {r : Option Int32} {τ σ σ1 : SG2} {pc : Nat} {L : List (Option PV)} {st : List PV} {a1 : Int32} (hc : CF k_H_emit [.inr 0, .inl a1] σ none σ1) (hd : decode K.2.1 pc = .ok (.invokevirtual 53, 3)) (hr : st.length ≤ 8) (h : PW K r τ (pc + 3) L (st) σ1) (ho : K.1 = "DetourHooker" := by rfl) (hR : 1 ≤ K.2.2.2.2.1 := by decide) : PW K r τ pc L (.inl a1 :: .inr 0 :: st) σ :=
  P_call (As := [.inl a1]) (o := 0) hc ok_H_emit (by rw [ho]; exact ml_H_53) pr_H_emit hd (Or.inl ⟨rfl, rfl⟩) rfl rfl rfl hR (by decide) hr h
theorem cl_H_badReg {K : MD} {r : Option Int32} {τ σ σ1 : SG2} {pc : Nat} {L : List (Option PV)} {st : List PV} {a1 : Int32} {r1 : Int32} (hc : CF k_H_badReg [.inr 0, .inl a1] σ (some r1) σ1) (hd : decode K.2.1 pc = .ok (.invokevirtual 61, 3)) (hr : st.length ≤ 8) (h : PW K r τ (pc + 3) L (.inl r1 :: st) σ1) (ho : K.1 = "DetourHooker" := by rfl) (hR : 1 ≤ K.2.2.2.2.1 := by decide) : PW K r τ pc L (.inl a1 :: .inr 0 :: st) σ :=
  P_call (As := [.inl a1]) (o := 0) hc ok_H_badReg (by rw [ho]; exact ml_H_61) pr_H_badReg hd (Or.inl ⟨rfl, rfl⟩) rfl rfl rfl hR (by decide) hr h
theorem cl_H_badTarget {K : MD} {r : Option Int32} {τ σ σ1 : SG2} {pc : Nat} {L : List (Option PV)} {st : List PV} {a1 : Int32} {r1 : Int32} (hc : CF k_H_badTarget [.inr 0, .inl a1] σ (some r1) σ1) (hd : decode K.2.1 pc = .ok (.invokevirtual 65, 3)) (hr : st.length ≤ 8) (h : PW K r τ (pc + 3) L (.inl r1 :: st) σ1) (ho : K.1 = "DetourHooker" := by rfl) (hR : 1 ≤ K.2.2.2.2.1 := by decide) : PW K r τ pc L (.inl a1 :: .inr 0 :: st) σ :=
  P_call (As := [.inl a1]) (o := 0) hc ok_H_badTarget (by rw [ho]; exact ml_H_65) pr_H_badTarget hd (Or.inl ⟨rfl, rfl⟩) rfl rfl rfl hR (by decide) hr h
theorem cl_H_asByte {K : MD} {r : Option Int32} {τ σ σ1 : SG2} {pc : Nat} {L : List (Option PV)} {st : List PV} {a1 : Int32} {r1 : Int32} (hc : CF k_H_asByte [.inr 0, .inl a1] σ (some r1) σ1) (hd : decode K.2.1 pc = .ok (.invokevirtual 68, 3)) (hr : st.length ≤ 8) (h : PW K r τ (pc + 3) L (.inl r1 :: st) σ1) (ho : K.1 = "DetourHooker" := by rfl) (hR : 1 ≤ K.2.2.2.2.1 := by decide) : PW K r τ pc L (.inl a1 :: .inr 0 :: st) σ :=
  P_call (As := [.inl a1]) (o := 0) hc ok_H_asByte (by rw [ho]; exact ml_H_68) pr_H_asByte hd (Or.inl ⟨rfl, rfl⟩) rfl rfl rfl hR (by decide) hr h
theorem cl_H_slotOf {K : MD} {r : Option Int32} {τ σ σ1 : SG2} {pc : Nat} {L : List (Option PV)} {st : List PV} {a1 : Int32} {r1 : Int32} (hc : CF k_H_slotOf [.inr 0, .inl a1] σ (some r1) σ1) (hd : decode K.2.1 pc = .ok (.invokevirtual 74, 3)) (hr : st.length ≤ 8) (h : PW K r τ (pc + 3) L (.inl r1 :: st) σ1) (ho : K.1 = "DetourHooker" := by rfl) (hR : 1 ≤ K.2.2.2.2.1 := by decide) : PW K r τ pc L (.inl a1 :: .inr 0 :: st) σ :=
  P_call (As := [.inl a1]) (o := 0) hc ok_H_slotOf (by rw [ho]; exact ml_H_74) pr_H_slotOf hd (Or.inl ⟨rfl, rfl⟩) rfl rfl rfl hR (by decide) hr h
theorem cl_H_isStart {K : MD} {r : Option Int32} {τ σ σ1 : SG2} {pc : Nat} {L : List (Option PV)} {st : List PV} {a1 : Int32} {r1 : Int32} (hc : CF k_H_isStart [.inr 0, .inl a1] σ (some r1) σ1) (hd : decode K.2.1 pc = .ok (.invokevirtual 77, 3)) (hr : st.length ≤ 8) (h : PW K r τ (pc + 3) L (.inl r1 :: st) σ1) (ho : K.1 = "DetourHooker" := by rfl) (hR : 1 ≤ K.2.2.2.2.1 := by decide) : PW K r τ pc L (.inl a1 :: .inr 0 :: st) σ :=
  P_call (As := [.inl a1]) (o := 0) hc ok_H_isStart (by rw [ho]; exact ml_H_77) pr_H_isStart hd (Or.inl ⟨rfl, rfl⟩) rfl rfl rfl hR (by decide) hr h
theorem cl_H_headOf {K : MD} {r : Option Int32} {τ σ σ1 : SG2} {pc : Nat} {L : List (Option PV)} {st : List PV} {a1 : Int32} {r1 : Int32} (hc : CF k_H_headOf [.inr 0, .inl a1] σ (some r1) σ1) (hd : decode K.2.1 pc = .ok (.invokevirtual 80, 3)) (hr : st.length ≤ 8) (h : PW K r τ (pc + 3) L (.inl r1 :: st) σ1) (ho : K.1 = "DetourHooker" := by rfl) (hR : 2 ≤ K.2.2.2.2.1 := by decide) : PW K r τ pc L (.inl a1 :: .inr 0 :: st) σ :=
  P_call (As := [.inl a1]) (o := 0) hc ok_H_headOf (by rw [ho]; exact ml_H_80) pr_H_headOf hd (Or.inl ⟨rfl, rfl⟩) rfl rfl rfl hR (by decide) hr h
theorem cl_H_meetsHead {K : MD} {r : Option Int32} {τ σ σ1 : SG2} {pc : Nat} {L : List (Option PV)} {st : List PV} {a1 a2 : Int32} {r1 : Int32} (hc : CF k_H_meetsHead [.inr 0, .inl a1, .inl a2] σ (some r1) σ1) (hd : decode K.2.1 pc = .ok (.invokevirtual 83, 3)) (hr : st.length ≤ 8) (h : PW K r τ (pc + 3) L (.inl r1 :: st) σ1) (ho : K.1 = "DetourHooker" := by rfl) (hR : 1 ≤ K.2.2.2.2.1 := by decide) : PW K r τ pc L (.inl a2 :: .inl a1 :: .inr 0 :: st) σ :=
  P_call (As := [.inl a1, .inl a2]) (o := 0) hc ok_H_meetsHead (by rw [ho]; exact ml_H_83) pr_H_meetsHead hd (Or.inl ⟨rfl, rfl⟩) rfl rfl rfl hR (by decide) hr h
theorem cl_H_aimedInside {K : MD} {r : Option Int32} {τ σ σ1 : SG2} {pc : Nat} {L : List (Option PV)} {st : List PV} {a1 a2 : Int32} {r1 : Int32} (hc : CF k_H_aimedInside [.inr 0, .inl a1, .inl a2] σ (some r1) σ1) (hd : decode K.2.1 pc = .ok (.invokevirtual 87, 3)) (hr : st.length ≤ 8) (h : PW K r τ (pc + 3) L (.inl r1 :: st) σ1) (ho : K.1 = "DetourHooker" := by rfl) (hR : 3 ≤ K.2.2.2.2.1 := by decide) : PW K r τ pc L (.inl a2 :: .inl a1 :: .inr 0 :: st) σ :=
  P_call (As := [.inl a1, .inl a2]) (o := 0) hc ok_H_aimedInside (by rw [ho]; exact ml_H_87) pr_H_aimedInside hd (Or.inl ⟨rfl, rfl⟩) rfl rfl rfl hR (by decide) hr h
theorem cl_H_displace {K : MD} {r : Option Int32} {τ σ σ1 : SG2} {pc : Nat} {L : List (Option PV)} {st : List PV} {a1 a2 a3 : Int32} (hc : CF k_H_displace [.inr 0, .inl a1, .inl a2, .inl a3] σ none σ1) (hd : decode K.2.1 pc = .ok (.invokevirtual 90, 3)) (hr : st.length ≤ 8) (h : PW K r τ (pc + 3) L (st) σ1) (ho : K.1 = "DetourHooker" := by rfl) (hR : 4 ≤ K.2.2.2.2.1 := by decide) : PW K r τ pc L (.inl a3 :: .inl a2 :: .inl a1 :: .inr 0 :: st) σ :=
  P_call (As := [.inl a1, .inl a2, .inl a3]) (o := 0) hc ok_H_displace (by rw [ho]; exact ml_H_90) pr_H_displace hd (Or.inl ⟨rfl, rfl⟩) rfl rfl rfl hR (by decide) hr h
theorem cl_H_overwrite {K : MD} {r : Option Int32} {τ σ σ1 : SG2} {pc : Nat} {L : List (Option PV)} {st : List PV} {a1 a2 a3 : Int32} (hc : CF k_H_overwrite [.inr 0, .inl a1, .inl a2, .inl a3] σ none σ1) (hd : decode K.2.1 pc = .ok (.invokevirtual 94, 3)) (hr : st.length ≤ 8) (h : PW K r τ (pc + 3) L (st) σ1) (ho : K.1 = "DetourHooker" := by rfl) (hR : 1 ≤ K.2.2.2.2.1 := by decide) : PW K r τ pc L (.inl a3 :: .inl a2 :: .inl a1 :: .inr 0 :: st) σ :=
  P_call (As := [.inl a1, .inl a2, .inl a3]) (o := 0) hc ok_H_overwrite (by rw [ho]; exact ml_H_94) pr_H_overwrite hd (Or.inl ⟨rfl, rfl⟩) rfl rfl rfl hR (by decide) hr h
theorem cl_H_targetOf {K : MD} {r : Option Int32} {τ σ σ1 : SG2} {pc : Nat} {L : List (Option PV)} {st : List PV} {a1 : Int32} {r1 : Int32} (hc : CF k_H_targetOf [.inr 0, .inl a1] σ (some r1) σ1) (hd : decode K.2.1 pc = .ok (.invokevirtual 71, 3)) (hr : st.length ≤ 8) (h : PW K r τ (pc + 3) L (.inl r1 :: st) σ1) (ho : K.1 = "DetourHooker" := by rfl) (hR : 2 ≤ K.2.2.2.2.1 := by decide) : PW K r τ pc L (.inl a1 :: .inr 0 :: st) σ :=
  P_call (As := [.inl a1]) (o := 0) hc ok_H_targetOf (by rw [ho]; exact ml_H_71) pr_H_targetOf hd (Or.inl ⟨rfl, rfl⟩) rfl rfl rfl hR (by decide) hr h
theorem cl_H_put {K : MD} {r : Option Int32} {τ σ σ1 : SG2} {pc : Nat} {L : List (Option PV)} {st : List PV} {a1 : Int32} (hc : CF k_H_put [.inr 0, .inl a1] σ none σ1) (hd : decode K.2.1 pc = .ok (.invokevirtual 100, 3)) (hr : st.length ≤ 8) (h : PW K r τ (pc + 3) L (st) σ1) (ho : K.1 = "DetourHooker" := by rfl) (hR : 1 ≤ K.2.2.2.2.1 := by decide) : PW K r τ pc L (.inl a1 :: .inr 0 :: st) σ :=
  P_call (As := [.inl a1]) (o := 0) hc ok_H_put (by rw [ho]; exact ml_H_100) pr_H_put hd (Or.inl ⟨rfl, rfl⟩) rfl rfl rfl hR (by decide) hr h
theorem cl_H_relocate {K : MD} {r : Option Int32} {τ σ σ1 : SG2} {pc : Nat} {L : List (Option PV)} {st : List PV} {a1 : Int32} (hc : CF k_H_relocate [.inr 0, .inl a1] σ none σ1) (hd : decode K.2.1 pc = .ok (.invokevirtual 103, 3)) (hr : st.length ≤ 8) (h : PW K r τ (pc + 3) L (st) σ1) (ho : K.1 = "DetourHooker" := by rfl) (hR : 3 ≤ K.2.2.2.2.1 := by decide) : PW K r τ pc L (.inl a1 :: .inr 0 :: st) σ :=
  P_call (As := [.inl a1]) (o := 0) hc ok_H_relocate (by rw [ho]; exact ml_H_103) pr_H_relocate hd (Or.inl ⟨rfl, rfl⟩) rfl rfl rfl hR (by decide) hr h
theorem cl_H_putAddress {K : MD} {r : Option Int32} {τ σ σ1 : SG2} {pc : Nat} {L : List (Option PV)} {st : List PV} {a1 : Int32} (hc : CF k_H_putAddress [.inr 0, .inl a1] σ none σ1) (hd : decode K.2.1 pc = .ok (.invokevirtual 106, 3)) (hr : st.length ≤ 8) (h : PW K r τ (pc + 3) L (st) σ1) (ho : K.1 = "DetourHooker" := by rfl) (hR : 2 ≤ K.2.2.2.2.1 := by decide) : PW K r τ pc L (.inl a1 :: .inr 0 :: st) σ :=
  P_call (As := [.inl a1]) (o := 0) hc ok_H_putAddress (by rw [ho]; exact ml_H_106) pr_H_putAddress hd (Or.inl ⟨rfl, rfl⟩) rfl rfl rfl hR (by decide) hr h
theorem cl_H_entry {K : MD} {r : Option Int32} {τ σ σ1 : SG2} {pc : Nat} {L : List (Option PV)} {st : List PV} {a1 : Int32} {r1 : Int32} (hc : CF k_H_entry [.inr 0, .inl a1] σ (some r1) σ1) (hd : decode K.2.1 pc = .ok (.invokevirtual 112, 3)) (hr : st.length ≤ 8) (h : PW K r τ (pc + 3) L (.inl r1 :: st) σ1) (ho : K.1 = "DetourHooker" := by rfl) (hR : 2 ≤ K.2.2.2.2.1 := by decide) : PW K r τ pc L (.inl a1 :: .inr 0 :: st) σ :=
  P_call (As := [.inl a1]) (o := 0) hc ok_H_entry (by rw [ho]; exact ml_H_112) pr_H_entry hd (Or.inl ⟨rfl, rfl⟩) rfl rfl rfl hR (by decide) hr h
theorem cl_H_execute {K : MD} {r : Option Int32} {τ σ σ1 : SG2} {pc : Nat} {L : List (Option PV)} {st : List PV} (hc : CF k_H_execute [.inr 0] σ none σ1) (hd : decode K.2.1 pc = .ok (.invokevirtual 127, 3)) (hr : st.length ≤ 8) (h : PW K r τ (pc + 3) L (st) σ1) (ho : K.1 = "DetourHooker" := by rfl) (hR : 4 ≤ K.2.2.2.2.1 := by decide) : PW K r τ pc L (.inr 0 :: st) σ :=
  P_call (As := []) (o := 0) hc ok_H_execute (by rw [ho]; exact ml_H_127) pr_H_execute hd (Or.inl ⟨rfl, rfl⟩) rfl rfl rfl hR (by decide) hr h
theorem cl_H_fetch {K : MD} {r : Option Int32} {τ σ σ1 : SG2} {pc : Nat} {L : List (Option PV)} {st : List PV} {a1 : Int32} {r1 : Int32} (hc : CF k_H_fetch [.inr 0, .inl a1] σ (some r1) σ1) (hd : decode K.2.1 pc = .ok (.invokevirtual 109, 3)) (hr : st.length ≤ 8) (h : PW K r τ (pc + 3) L (.inl r1 :: st) σ1) (ho : K.1 = "DetourHooker" := by rfl) (hR : 1 ≤ K.2.2.2.2.1 := by decide) : PW K r τ pc L (.inl a1 :: .inr 0 :: st) σ :=
  P_call (As := [.inl a1]) (o := 0) hc ok_H_fetch (by rw [ho]; exact ml_H_109) pr_H_fetch hd (Or.inl ⟨rfl, rfl⟩) rfl rfl rfl hR (by decide) hr h
theorem cl_H_fetchAddress {K : MD} {r : Option Int32} {τ σ σ1 : SG2} {pc : Nat} {L : List (Option PV)} {st : List PV} {a1 : Int32} {r1 : Int32} (hc : CF k_H_fetchAddress [.inr 0, .inl a1] σ (some r1) σ1) (hd : decode K.2.1 pc = .ok (.invokevirtual 130, 3)) (hr : st.length ≤ 8) (h : PW K r τ (pc + 3) L (.inl r1 :: st) σ1) (ho : K.1 = "DetourHooker" := by rfl) (hR : 2 ≤ K.2.2.2.2.1 := by decide) : PW K r τ pc L (.inl a1 :: .inr 0 :: st) σ :=
  P_call (As := [.inl a1]) (o := 0) hc ok_H_fetchAddress (by rw [ho]; exact ml_H_130) pr_H_fetchAddress hd (Or.inl ⟨rfl, rfl⟩) rfl rfl rfl hR (by decide) hr h
theorem cl_H_executeFar {K : MD} {r : Option Int32} {τ σ σ1 : SG2} {pc : Nat} {L : List (Option PV)} {st : List PV} {a1 : Int32} (hc : CF k_H_executeFar [.inr 0, .inl a1] σ none σ1) (hd : decode K.2.1 pc = .ok (.invokevirtual 133, 3)) (hr : st.length ≤ 8) (h : PW K r τ (pc + 3) L (st) σ1) (ho : K.1 = "DetourHooker" := by rfl) (hR : 3 ≤ K.2.2.2.2.1 := by decide) : PW K r τ pc L (.inl a1 :: .inr 0 :: st) σ :=
  P_call (As := [.inl a1]) (o := 0) hc ok_H_executeFar (by rw [ho]; exact ml_H_133) pr_H_executeFar hd (Or.inl ⟨rfl, rfl⟩) rfl rfl rfl hR (by decide) hr h
theorem cl_H_executePlain {K : MD} {r : Option Int32} {τ σ σ1 : SG2} {pc : Nat} {L : List (Option PV)} {st : List PV} {a1 : Int32} (hc : CF k_H_executePlain [.inr 0, .inl a1] σ none σ1) (hd : decode K.2.1 pc = .ok (.invokevirtual 136, 3)) (hr : st.length ≤ 8) (h : PW K r τ (pc + 3) L (st) σ1) (ho : K.1 = "DetourHooker" := by rfl) (hR : 2 ≤ K.2.2.2.2.1 := by decide) : PW K r τ pc L (.inl a1 :: .inr 0 :: st) σ :=
  P_call (As := [.inl a1]) (o := 0) hc ok_H_executePlain (by rw [ho]; exact ml_H_136) pr_H_executePlain hd (Or.inl ⟨rfl, rfl⟩) rfl rfl rfl hR (by decide) hr h
theorem cl_H_enter {K : MD} {r : Option Int32} {τ σ σ1 : SG2} {pc : Nat} {L : List (Option PV)} {st : List PV} {a1 a2 : Int32} (hc : CF k_H_enter [.inr 0, .inl a1, .inl a2] σ none σ1) (hd : decode K.2.1 pc = .ok (.invokevirtual 139, 3)) (hr : st.length ≤ 8) (h : PW K r τ (pc + 3) L (st) σ1) (ho : K.1 = "DetourHooker" := by rfl) (hR : 1 ≤ K.2.2.2.2.1 := by decide) : PW K r τ pc L (.inl a2 :: .inl a1 :: .inr 0 :: st) σ :=
  P_call (As := [.inl a1, .inl a2]) (o := 0) hc ok_H_enter (by rw [ho]; exact ml_H_139) pr_H_enter hd (Or.inl ⟨rfl, rfl⟩) rfl rfl rfl hR (by decide) hr h
theorem cl_H_leave {K : MD} {r : Option Int32} {τ σ σ1 : SG2} {pc : Nat} {L : List (Option PV)} {st : List PV} (hc : CF k_H_leave [.inr 0] σ none σ1) (hd : decode K.2.1 pc = .ok (.invokevirtual 143, 3)) (hr : st.length ≤ 8) (h : PW K r τ (pc + 3) L (st) σ1) (ho : K.1 = "DetourHooker" := by rfl) (hR : 1 ≤ K.2.2.2.2.1 := by decide) : PW K r τ pc L (.inr 0 :: st) σ :=
  P_call (As := []) (o := 0) hc ok_H_leave (by rw [ho]; exact ml_H_143) pr_H_leave hd (Or.inl ⟨rfl, rfl⟩) rfl rfl rfl hR (by decide) hr h
theorem cl_H_signed {K : MD} {r : Option Int32} {τ σ σ1 : SG2} {pc : Nat} {L : List (Option PV)} {st : List PV} {a1 : Int32} {r1 : Int32} (hc : CF k_H_signed [.inr 0, .inl a1] σ (some r1) σ1) (hd : decode K.2.1 pc = .ok (.invokevirtual 146, 3)) (hr : st.length ≤ 8) (h : PW K r τ (pc + 3) L (.inl r1 :: st) σ1) (ho : K.1 = "DetourHooker" := by rfl) (hR : 1 ≤ K.2.2.2.2.1 := by decide) : PW K r τ pc L (.inl a1 :: .inr 0 :: st) σ :=
  P_call (As := [.inl a1]) (o := 0) hc ok_H_signed (by rw [ho]; exact ml_H_146) pr_H_signed hd (Or.inl ⟨rfl, rfl⟩) rfl rfl rfl hR (by decide) hr h
theorem cl_H_change {K : MD} {r : Option Int32} {τ σ σ1 : SG2} {pc : Nat} {L : List (Option PV)} {st : List PV} {a1 a2 a3 a4 : Int32} (hc : CF k_H_change [.inr 0, .inl a1, .inl a2, .inl a3, .inl a4] σ none σ1) (hd : decode K.2.1 pc = .ok (.invokevirtual 149, 3)) (hr : st.length ≤ 8) (h : PW K r τ (pc + 3) L (st) σ1) (ho : K.1 = "DetourHooker" := by rfl) (hR : 1 ≤ K.2.2.2.2.1 := by decide) : PW K r τ pc L (.inl a4 :: .inl a3 :: .inl a2 :: .inl a1 :: .inr 0 :: st) σ :=
  P_call (As := [.inl a1, .inl a2, .inl a3, .inl a4]) (o := 0) hc ok_H_change (by rw [ho]; exact ml_H_149) pr_H_change hd (Or.inl ⟨rfl, rfl⟩) rfl rfl rfl hR (by decide) hr h
theorem cl_M_append {K : MD} {r : Option Int32} {τ σ σ1 : SG2} {pc : Nat} {L : List (Option PV)} {st : List PV} {a1 a2 a3 a4 : Int32} {r1 : Int32} (hc : CF k_M_append [.inr 16, .inl a1, .inl a2, .inl a3, .inl a4] σ (some r1) σ1) (hd : decode K.2.1 pc = .ok (.invokevirtual 37, 3)) (hr : st.length ≤ 8) (h : PW K r τ (pc + 3) L (.inl r1 :: st) σ1) (ho : K.1 = "DetourHookerModel" := by rfl) (hR : 2 ≤ K.2.2.2.2.1 := by decide) : PW K r τ pc L (.inl a4 :: .inl a3 :: .inl a2 :: .inl a1 :: .inr 16 :: st) σ :=
  P_call (As := [.inl a1, .inl a2, .inl a3, .inl a4]) (o := 16) hc ok_M_append (by rw [ho]; exact ml_M_37) pr_M_append hd (Or.inr ⟨rfl, rfl⟩) rfl rfl rfl hR (by decide) hr h
theorem cl_M_hooks {K : MD} {r : Option Int32} {τ σ σ1 : SG2} {pc : Nat} {L : List (Option PV)} {st : List PV} {r1 : Int32} (hc : CF k_M_hooks [.inr 16] σ (some r1) σ1) (hd : decode K.2.1 pc = .ok (.invokevirtual 29, 3)) (hr : st.length ≤ 8) (h : PW K r τ (pc + 3) L (.inl r1 :: st) σ1) (ho : K.1 = "DetourHookerModel" := by rfl) (hR : 1 ≤ K.2.2.2.2.1 := by decide) : PW K r τ pc L (.inr 16 :: st) σ :=
  P_call (As := []) (o := 16) hc ok_M_hooks (by rw [ho]; exact ml_M_29) pr_M_hooks hd (Or.inr ⟨rfl, rfl⟩) rfl rfl rfl hR (by decide) hr h
theorem cl_M_isRegister {K : MD} {r : Option Int32} {τ σ σ1 : SG2} {pc : Nat} {L : List (Option PV)} {st : List PV} {a1 : Int32} {r1 : Int32} (hc : CF k_M_isRegister [.inr 16, .inl a1] σ (some r1) σ1) (hd : decode K.2.1 pc = .ok (.invokevirtual 41, 3)) (hr : st.length ≤ 8) (h : PW K r τ (pc + 3) L (.inl r1 :: st) σ1) (ho : K.1 = "DetourHookerModel" := by rfl) (hR : 1 ≤ K.2.2.2.2.1 := by decide) : PW K r τ pc L (.inl a1 :: .inr 16 :: st) σ :=
  P_call (As := [.inl a1]) (o := 16) hc ok_M_isRegister (by rw [ho]; exact ml_M_41) pr_M_isRegister hd (Or.inr ⟨rfl, rfl⟩) rfl rfl rfl hR (by decide) hr h
theorem cl_M_isTarget {K : MD} {r : Option Int32} {τ σ σ1 : SG2} {pc : Nat} {L : List (Option PV)} {st : List PV} {a1 : Int32} {r1 : Int32} (hc : CF k_M_isTarget [.inr 16, .inl a1] σ (some r1) σ1) (hd : decode K.2.1 pc = .ok (.invokevirtual 45, 3)) (hr : st.length ≤ 8) (h : PW K r τ (pc + 3) L (.inl r1 :: st) σ1) (ho : K.1 = "DetourHookerModel" := by rfl) (hR : 1 ≤ K.2.2.2.2.1 := by decide) : PW K r τ pc L (.inl a1 :: .inr 16 :: st) σ :=
  P_call (As := [.inl a1]) (o := 16) hc ok_M_isTarget (by rw [ho]; exact ml_M_45) pr_M_isTarget hd (Or.inr ⟨rfl, rfl⟩) rfl rfl rfl hR (by decide) hr h
theorem cl_M_headOf {K : MD} {r : Option Int32} {τ σ σ1 : SG2} {pc : Nat} {L : List (Option PV)} {st : List PV} {a1 : Int32} {r1 : Int32} (hc : CF k_M_headOf [.inr 16, .inl a1] σ (some r1) σ1) (hd : decode K.2.1 pc = .ok (.invokevirtual 55, 3)) (hr : st.length ≤ 8) (h : PW K r τ (pc + 3) L (.inl r1 :: st) σ1) (ho : K.1 = "DetourHookerModel" := by rfl) (hR : 2 ≤ K.2.2.2.2.1 := by decide) : PW K r τ pc L (.inl a1 :: .inr 16 :: st) σ :=
  P_call (As := [.inl a1]) (o := 16) hc ok_M_headOf (by rw [ho]; exact ml_M_55) pr_M_headOf hd (Or.inr ⟨rfl, rfl⟩) rfl rfl rfl hR (by decide) hr h
theorem cl_M_overlaps {K : MD} {r : Option Int32} {τ σ σ1 : SG2} {pc : Nat} {L : List (Option PV)} {st : List PV} {a1 a2 : Int32} {r1 : Int32} (hc : CF k_M_overlaps [.inr 16, .inl a1, .inl a2] σ (some r1) σ1) (hd : decode K.2.1 pc = .ok (.invokevirtual 61, 3)) (hr : st.length ≤ 8) (h : PW K r τ (pc + 3) L (.inl r1 :: st) σ1) (ho : K.1 = "DetourHookerModel" := by rfl) (hR : 3 ≤ K.2.2.2.2.1 := by decide) : PW K r τ pc L (.inl a2 :: .inl a1 :: .inr 16 :: st) σ :=
  P_call (As := [.inl a1, .inl a2]) (o := 16) hc ok_M_overlaps (by rw [ho]; exact ml_M_61) pr_M_overlaps hd (Or.inr ⟨rfl, rfl⟩) rfl rfl rfl hR (by decide) hr h
theorem cl_M_isEntered {K : MD} {r : Option Int32} {τ σ σ1 : SG2} {pc : Nat} {L : List (Option PV)} {st : List PV} {a1 a2 : Int32} {r1 : Int32} (hc : CF k_M_isEntered [.inr 16, .inl a1, .inl a2] σ (some r1) σ1) (hd : decode K.2.1 pc = .ok (.invokevirtual 65, 3)) (hr : st.length ≤ 8) (h : PW K r τ (pc + 3) L (.inl r1 :: st) σ1) (ho : K.1 = "DetourHookerModel" := by rfl) (hR : 3 ≤ K.2.2.2.2.1 := by decide) : PW K r τ pc L (.inl a2 :: .inl a1 :: .inr 16 :: st) σ :=
  P_call (As := [.inl a1, .inl a2]) (o := 16) hc ok_M_isEntered (by rw [ho]; exact ml_M_65) pr_M_isEntered hd (Or.inr ⟨rfl, rfl⟩) rfl rfl rfl hR (by decide) hr h
theorem cl_M_starts {K : MD} {r : Option Int32} {τ σ σ1 : SG2} {pc : Nat} {L : List (Option PV)} {st : List PV} {a1 : Int32} {r1 : Int32} (hc : CF k_M_starts [.inr 16, .inl a1] σ (some r1) σ1) (hd : decode K.2.1 pc = .ok (.invokevirtual 48, 3)) (hr : st.length ≤ 8) (h : PW K r τ (pc + 3) L (.inl r1 :: st) σ1) (ho : K.1 = "DetourHookerModel" := by rfl) (hR : 1 ≤ K.2.2.2.2.1 := by decide) : PW K r τ pc L (.inl a1 :: .inr 16 :: st) σ :=
  P_call (As := [.inl a1]) (o := 16) hc ok_M_starts (by rw [ho]; exact ml_M_48) pr_M_starts hd (Or.inr ⟨rfl, rfl⟩) rfl rfl rfl hR (by decide) hr h
theorem cl_M_nextOf {K : MD} {r : Option Int32} {τ σ σ1 : SG2} {pc : Nat} {L : List (Option PV)} {st : List PV} {a1 : Int32} {r1 : Int32} (hc : CF k_M_nextOf [.inr 16, .inl a1] σ (some r1) σ1) (hd : decode K.2.1 pc = .ok (.invokevirtual 51, 3)) (hr : st.length ≤ 8) (h : PW K r τ (pc + 3) L (.inl r1 :: st) σ1) (ho : K.1 = "DetourHookerModel" := by rfl) (hR : 1 ≤ K.2.2.2.2.1 := by decide) : PW K r τ pc L (.inl a1 :: .inr 16 :: st) σ :=
  P_call (As := [.inl a1]) (o := 16) hc ok_M_nextOf (by rw [ho]; exact ml_M_51) pr_M_nextOf hd (Or.inr ⟨rfl, rfl⟩) rfl rfl rfl hR (by decide) hr h
theorem cl_M_targetOf {K : MD} {r : Option Int32} {τ σ σ1 : SG2} {pc : Nat} {L : List (Option PV)} {st : List PV} {a1 : Int32} {r1 : Int32} (hc : CF k_M_targetOf [.inr 16, .inl a1] σ (some r1) σ1) (hd : decode K.2.1 pc = .ok (.invokevirtual 58, 3)) (hr : st.length ≤ 8) (h : PW K r τ (pc + 3) L (.inl r1 :: st) σ1) (ho : K.1 = "DetourHookerModel" := by rfl) (hR : 2 ≤ K.2.2.2.2.1 := by decide) : PW K r τ pc L (.inl a1 :: .inr 16 :: st) σ :=
  P_call (As := [.inl a1]) (o := 16) hc ok_M_targetOf (by rw [ho]; exact ml_M_58) pr_M_targetOf hd (Or.inr ⟨rfl, rfl⟩) rfl rfl rfl hR (by decide) hr h
theorem cl_M_execute {K : MD} {r : Option Int32} {τ σ σ1 : SG2} {pc : Nat} {L : List (Option PV)} {st : List PV} (hc : CF k_M_execute [.inr 16] σ none σ1) (hd : decode K.2.1 pc = .ok (.invokevirtual 84, 3)) (hr : st.length ≤ 8) (h : PW K r τ (pc + 3) L (st) σ1) (ho : K.1 = "DetourHookerModel" := by rfl) (hR : 4 ≤ K.2.2.2.2.1 := by decide) : PW K r τ pc L (.inr 16 :: st) σ :=
  P_call (As := []) (o := 16) hc ok_M_execute (by rw [ho]; exact ml_M_84) pr_M_execute hd (Or.inr ⟨rfl, rfl⟩) rfl rfl rfl hR (by decide) hr h
theorem cl_M_goOn {K : MD} {r : Option Int32} {τ σ σ1 : SG2} {pc : Nat} {L : List (Option PV)} {st : List PV} {a1 a2 : Int32} (hc : CF k_M_goOn [.inr 16, .inl a1, .inl a2] σ none σ1) (hd : decode K.2.1 pc = .ok (.invokevirtual 77, 3)) (hr : st.length ≤ 8) (h : PW K r τ (pc + 3) L (st) σ1) (ho : K.1 = "DetourHookerModel" := by rfl) (hR : 3 ≤ K.2.2.2.2.1 := by decide) : PW K r τ pc L (.inl a2 :: .inl a1 :: .inr 16 :: st) σ :=
  P_call (As := [.inl a1, .inl a2]) (o := 16) hc ok_M_goOn (by rw [ho]; exact ml_M_77) pr_M_goOn hd (Or.inr ⟨rfl, rfl⟩) rfl rfl rfl hR (by decide) hr h
end
section
theorem d_H_init_0 : decode b_H_init 0 = .ok (.aload_n 0, 1) := by decide +kernel
theorem d_H_init_1 : decode b_H_init 1 = .ok (.invokespecial 1, 3) := by decide +kernel
theorem d_H_init_4 : decode b_H_init 4 = .ok (.aload_n 0, 1) := by decide +kernel
theorem d_H_init_5 : decode b_H_init 5 = .ok (.bipush 64, 2) := by decide +kernel
theorem d_H_init_7 : decode b_H_init 7 = .ok (.newarray .int, 2) := by decide +kernel
theorem d_H_init_9 : decode b_H_init 9 = .ok (.putfield 7, 3) := by decide +kernel
theorem d_H_init_12 : decode b_H_init 12 = .ok (.aload_n 0, 1) := by decide +kernel
theorem d_H_init_13 : decode b_H_init 13 = .ok (.bipush 64, 2) := by decide +kernel
theorem d_H_init_15 : decode b_H_init 15 = .ok (.newarray .int, 2) := by decide +kernel
theorem d_H_init_17 : decode b_H_init 17 = .ok (.putfield 13, 3) := by decide +kernel
theorem d_H_init_20 : decode b_H_init 20 = .ok (.aload_n 0, 1) := by decide +kernel
theorem d_H_init_21 : decode b_H_init 21 = .ok (.bipush 64, 2) := by decide +kernel
theorem d_H_init_23 : decode b_H_init 23 = .ok (.newarray .boolean, 2) := by decide +kernel
theorem d_H_init_25 : decode b_H_init 25 = .ok (.putfield 16, 3) := by decide +kernel
theorem d_H_init_28 : decode b_H_init 28 = .ok (.aload_n 0, 1) := by decide +kernel
theorem d_H_init_29 : decode b_H_init 29 = .ok (.bipush 64, 2) := by decide +kernel
theorem d_H_init_31 : decode b_H_init 31 = .ok (.newarray .int, 2) := by decide +kernel
theorem d_H_init_33 : decode b_H_init 33 = .ok (.putfield 20, 3) := by decide +kernel
theorem d_H_init_36 : decode b_H_init 36 = .ok (.aload_n 0, 1) := by decide +kernel
theorem d_H_init_37 : decode b_H_init 37 = .ok (.bipush 64, 2) := by decide +kernel
theorem d_H_init_39 : decode b_H_init 39 = .ok (.newarray .int, 2) := by decide +kernel
theorem d_H_init_41 : decode b_H_init 41 = .ok (.putfield 23, 3) := by decide +kernel
theorem d_H_init_44 : decode b_H_init 44 = .ok (.aload_n 0, 1) := by decide +kernel
theorem d_H_init_45 : decode b_H_init 45 = .ok (.iconst 4, 1) := by decide +kernel
theorem d_H_init_46 : decode b_H_init 46 = .ok (.newarray .int, 2) := by decide +kernel
theorem d_H_init_48 : decode b_H_init 48 = .ok (.putfield 26, 3) := by decide +kernel
theorem d_H_init_51 : decode b_H_init 51 = .ok (.aload_n 0, 1) := by decide +kernel
theorem d_H_init_52 : decode b_H_init 52 = .ok (.iconst 4, 1) := by decide +kernel
theorem d_H_init_53 : decode b_H_init 53 = .ok (.newarray .int, 2) := by decide +kernel
theorem d_H_init_55 : decode b_H_init 55 = .ok (.putfield 29, 3) := by decide +kernel
theorem d_H_init_58 : decode b_H_init 58 = .ok (.aload_n 0, 1) := by decide +kernel
theorem d_H_init_59 : decode b_H_init 59 = .ok (.iconst 4, 1) := by decide +kernel
theorem d_H_init_60 : decode b_H_init 60 = .ok (.newarray .int, 2) := by decide +kernel
theorem d_H_init_62 : decode b_H_init 62 = .ok (.putfield 32, 3) := by decide +kernel
theorem d_H_init_65 : decode b_H_init 65 = .ok (.aload_n 0, 1) := by decide +kernel
theorem d_H_init_66 : decode b_H_init 66 = .ok (.iconst 4, 1) := by decide +kernel
theorem d_H_init_67 : decode b_H_init 67 = .ok (.newarray .int, 2) := by decide +kernel
theorem d_H_init_69 : decode b_H_init 69 = .ok (.putfield 35, 3) := by decide +kernel
theorem d_H_init_72 : decode b_H_init 72 = .ok (.aload_n 0, 1) := by decide +kernel
theorem d_H_init_73 : decode b_H_init 73 = .ok (.bipush 8, 2) := by decide +kernel
theorem d_H_init_75 : decode b_H_init 75 = .ok (.newarray .int, 2) := by decide +kernel
theorem d_H_init_77 : decode b_H_init 77 = .ok (.putfield 38, 3) := by decide +kernel
theorem d_H_init_80 : decode b_H_init 80 = .ok (.iconst 0, 1) := by decide +kernel
theorem d_H_init_81 : decode b_H_init 81 = .ok (.istore_n 1, 1) := by decide +kernel
theorem d_H_init_82 : decode b_H_init 82 = .ok (.iload_n 1, 1) := by decide +kernel
theorem d_H_init_83 : decode b_H_init 83 = .ok (.iconst 4, 1) := by decide +kernel
theorem d_H_init_84 : decode b_H_init 84 = .ok (.if_icmp .ge 16, 3) := by decide +kernel
theorem d_H_init_87 : decode b_H_init 87 = .ok (.aload_n 0, 1) := by decide +kernel
theorem d_H_init_88 : decode b_H_init 88 = .ok (.getfield 26, 3) := by decide +kernel
theorem d_H_init_91 : decode b_H_init 91 = .ok (.iload_n 1, 1) := by decide +kernel
theorem d_H_init_92 : decode b_H_init 92 = .ok (.iconst (-1), 1) := by decide +kernel
theorem d_H_init_93 : decode b_H_init 93 = .ok (.iastore, 1) := by decide +kernel
theorem d_H_init_94 : decode b_H_init 94 = .ok (.iinc 1 1, 3) := by decide +kernel
theorem d_H_init_97 : decode b_H_init 97 = .ok (.goto (-15), 3) := by decide +kernel
theorem d_H_init_100 : decode b_H_init 100 = .ok (.return_, 1) := by decide +kernel
theorem d_H_halt_0 : decode b_H_halt 0 = .ok (.aload_n 0, 1) := by decide +kernel
theorem d_H_halt_1 : decode b_H_halt 1 = .ok (.iconst 0, 1) := by decide +kernel
theorem d_H_halt_2 : decode b_H_halt 2 = .ok (.iconst 0, 1) := by decide +kernel
theorem d_H_halt_3 : decode b_H_halt 3 = .ok (.iconst 0, 1) := by decide +kernel
theorem d_H_halt_4 : decode b_H_halt 4 = .ok (.invokevirtual 57, 3) := by decide +kernel
theorem d_H_halt_7 : decode b_H_halt 7 = .ok (.ireturn, 1) := by decide +kernel
theorem d_H_append_0 : decode b_H_append 0 = .ok (.aload_n 0, 1) := by decide +kernel
theorem d_H_append_1 : decode b_H_append 1 = .ok (.invokevirtual 41, 3) := by decide +kernel
theorem d_H_append_4 : decode b_H_append 4 = .ok (.istore 4, 2) := by decide +kernel
theorem d_H_append_6 : decode b_H_append 6 = .ok (.iload 4, 2) := by decide +kernel
theorem d_H_append_8 : decode b_H_append 8 = .ok (.ifCond .le 6, 3) := by decide +kernel
theorem d_H_append_11 : decode b_H_append 11 = .ok (.bipush (-3), 2) := by decide +kernel
theorem d_H_append_13 : decode b_H_append 13 = .ok (.ireturn, 1) := by decide +kernel
theorem d_H_append_14 : decode b_H_append 14 = .ok (.aload_n 0, 1) := by decide +kernel
theorem d_H_append_15 : decode b_H_append 15 = .ok (.iload_n 1, 1) := by decide +kernel
theorem d_H_append_16 : decode b_H_append 16 = .ok (.invokevirtual 45, 3) := by decide +kernel
theorem d_H_append_19 : decode b_H_append 19 = .ok (.istore 5, 2) := by decide +kernel
theorem d_H_append_21 : decode b_H_append 21 = .ok (.aload_n 0, 1) := by decide +kernel
theorem d_H_append_22 : decode b_H_append 22 = .ok (.getfield 49, 3) := by decide +kernel
theorem d_H_append_25 : decode b_H_append 25 = .ok (.iload 5, 2) := by decide +kernel
theorem d_H_append_27 : decode b_H_append 27 = .ok (.iadd, 1) := by decide +kernel
theorem d_H_append_28 : decode b_H_append 28 = .ok (.bipush 64, 2) := by decide +kernel
theorem d_H_append_30 : decode b_H_append 30 = .ok (.if_icmp .le 6, 3) := by decide +kernel
theorem d_H_append_33 : decode b_H_append 33 = .ok (.bipush (-2), 2) := by decide +kernel
theorem d_H_append_35 : decode b_H_append 35 = .ok (.ireturn, 1) := by decide +kernel
theorem d_H_append_36 : decode b_H_append 36 = .ok (.aload_n 0, 1) := by decide +kernel
theorem d_H_append_37 : decode b_H_append 37 = .ok (.getfield 49, 3) := by decide +kernel
theorem d_H_append_40 : decode b_H_append 40 = .ok (.istore 6, 2) := by decide +kernel
theorem d_H_append_42 : decode b_H_append 42 = .ok (.aload_n 0, 1) := by decide +kernel
theorem d_H_append_43 : decode b_H_append 43 = .ok (.iload_n 1, 1) := by decide +kernel
theorem d_H_append_44 : decode b_H_append 44 = .ok (.invokevirtual 53, 3) := by decide +kernel
theorem d_H_append_47 : decode b_H_append 47 = .ok (.aload_n 0, 1) := by decide +kernel
theorem d_H_append_48 : decode b_H_append 48 = .ok (.getfield 16, 3) := by decide +kernel
theorem d_H_append_51 : decode b_H_append 51 = .ok (.iload 6, 2) := by decide +kernel
theorem d_H_append_53 : decode b_H_append 53 = .ok (.iconst 1, 1) := by decide +kernel
theorem d_H_append_54 : decode b_H_append 54 = .ok (.bastore, 1) := by decide +kernel
theorem d_H_append_55 : decode b_H_append 55 = .ok (.iload 5, 2) := by decide +kernel
theorem d_H_append_57 : decode b_H_append 57 = .ok (.iconst 1, 1) := by decide +kernel
theorem d_H_append_58 : decode b_H_append 58 = .ok (.if_icmp .le 8, 3) := by decide +kernel
theorem d_H_append_61 : decode b_H_append 61 = .ok (.aload_n 0, 1) := by decide +kernel
theorem d_H_append_62 : decode b_H_append 62 = .ok (.iload_n 2, 1) := by decide +kernel
theorem d_H_append_63 : decode b_H_append 63 = .ok (.invokevirtual 53, 3) := by decide +kernel
theorem d_H_append_66 : decode b_H_append 66 = .ok (.iload 5, 2) := by decide +kernel
theorem d_H_append_68 : decode b_H_append 68 = .ok (.iconst 2, 1) := by decide +kernel
theorem d_H_append_69 : decode b_H_append 69 = .ok (.if_icmp .le 8, 3) := by decide +kernel
theorem d_H_append_72 : decode b_H_append 72 = .ok (.aload_n 0, 1) := by decide +kernel
theorem d_H_append_73 : decode b_H_append 73 = .ok (.iload_n 3, 1) := by decide +kernel
theorem d_H_append_74 : decode b_H_append 74 = .ok (.invokevirtual 53, 3) := by decide +kernel
theorem d_H_append_77 : decode b_H_append 77 = .ok (.iload 6, 2) := by decide +kernel
theorem d_H_append_79 : decode b_H_append 79 = .ok (.ireturn, 1) := by decide +kernel
theorem d_H_hooks_0 : decode b_H_hooks 0 = .ok (.iconst 0, 1) := by decide +kernel
theorem d_H_hooks_1 : decode b_H_hooks 1 = .ok (.istore_n 1, 1) := by decide +kernel
theorem d_H_hooks_2 : decode b_H_hooks 2 = .ok (.iconst 0, 1) := by decide +kernel
theorem d_H_hooks_3 : decode b_H_hooks 3 = .ok (.istore_n 2, 1) := by decide +kernel
theorem d_H_hooks_4 : decode b_H_hooks 4 = .ok (.iload_n 2, 1) := by decide +kernel
theorem d_H_hooks_5 : decode b_H_hooks 5 = .ok (.iconst 4, 1) := by decide +kernel
theorem d_H_hooks_6 : decode b_H_hooks 6 = .ok (.if_icmp .ge 21, 3) := by decide +kernel
theorem d_H_hooks_9 : decode b_H_hooks 9 = .ok (.aload_n 0, 1) := by decide +kernel
theorem d_H_hooks_10 : decode b_H_hooks 10 = .ok (.getfield 26, 3) := by decide +kernel
theorem d_H_hooks_13 : decode b_H_hooks 13 = .ok (.iload_n 2, 1) := by decide +kernel
theorem d_H_hooks_14 : decode b_H_hooks 14 = .ok (.iaload, 1) := by decide +kernel
theorem d_H_hooks_15 : decode b_H_hooks 15 = .ok (.ifCond .lt 6, 3) := by decide +kernel
theorem d_H_hooks_18 : decode b_H_hooks 18 = .ok (.iinc 1 1, 3) := by decide +kernel
theorem d_H_hooks_21 : decode b_H_hooks 21 = .ok (.iinc 2 1, 3) := by decide +kernel
theorem d_H_hooks_24 : decode b_H_hooks 24 = .ok (.goto (-20), 3) := by decide +kernel
theorem d_H_hooks_27 : decode b_H_hooks 27 = .ok (.iload_n 1, 1) := by decide +kernel
theorem d_H_hooks_28 : decode b_H_hooks 28 = .ok (.ireturn, 1) := by decide +kernel
theorem d_H_lengthOf_0 : decode b_H_lengthOf 0 = .ok (.iload_n 1, 1) := by decide +kernel
theorem d_H_lengthOf_1 : decode b_H_lengthOf 1 = .ok (.ifCond .eq 9, 3) := by decide +kernel
theorem d_H_lengthOf_4 : decode b_H_lengthOf 4 = .ok (.iload_n 1, 1) := by decide +kernel
theorem d_H_lengthOf_5 : decode b_H_lengthOf 5 = .ok (.bipush 7, 2) := by decide +kernel
theorem d_H_lengthOf_7 : decode b_H_lengthOf 7 = .ok (.if_icmp .ne 5, 3) := by decide +kernel
theorem d_H_lengthOf_10 : decode b_H_lengthOf 10 = .ok (.iconst 1, 1) := by decide +kernel
theorem d_H_lengthOf_11 : decode b_H_lengthOf 11 = .ok (.ireturn, 1) := by decide +kernel
theorem d_H_lengthOf_12 : decode b_H_lengthOf 12 = .ok (.iload_n 1, 1) := by decide +kernel
theorem d_H_lengthOf_13 : decode b_H_lengthOf 13 = .ok (.iconst 5, 1) := by decide +kernel
theorem d_H_lengthOf_14 : decode b_H_lengthOf 14 = .ok (.if_icmp .ne 7, 3) := by decide +kernel
theorem d_H_lengthOf_17 : decode b_H_lengthOf 17 = .ok (.iconst 3, 1) := by decide +kernel
theorem d_H_lengthOf_18 : decode b_H_lengthOf 18 = .ok (.goto 4, 3) := by decide +kernel
theorem d_H_lengthOf_21 : decode b_H_lengthOf 21 = .ok (.iconst 2, 1) := by decide +kernel
theorem d_H_lengthOf_22 : decode b_H_lengthOf 22 = .ok (.ireturn, 1) := by decide +kernel
theorem d_H_emit_0 : decode b_H_emit 0 = .ok (.aload_n 0, 1) := by decide +kernel
theorem d_H_emit_1 : decode b_H_emit 1 = .ok (.getfield 7, 3) := by decide +kernel
theorem d_H_emit_4 : decode b_H_emit 4 = .ok (.aload_n 0, 1) := by decide +kernel
theorem d_H_emit_5 : decode b_H_emit 5 = .ok (.getfield 49, 3) := by decide +kernel
theorem d_H_emit_8 : decode b_H_emit 8 = .ok (.iload_n 1, 1) := by decide +kernel
theorem d_H_emit_9 : decode b_H_emit 9 = .ok (.iastore, 1) := by decide +kernel
theorem d_H_emit_10 : decode b_H_emit 10 = .ok (.aload_n 0, 1) := by decide +kernel
theorem d_H_emit_11 : decode b_H_emit 11 = .ok (.getfield 13, 3) := by decide +kernel
theorem d_H_emit_14 : decode b_H_emit 14 = .ok (.aload_n 0, 1) := by decide +kernel
theorem d_H_emit_15 : decode b_H_emit 15 = .ok (.getfield 49, 3) := by decide +kernel
theorem d_H_emit_18 : decode b_H_emit 18 = .ok (.iload_n 1, 1) := by decide +kernel
theorem d_H_emit_19 : decode b_H_emit 19 = .ok (.iastore, 1) := by decide +kernel
theorem d_H_emit_20 : decode b_H_emit 20 = .ok (.aload_n 0, 1) := by decide +kernel
theorem d_H_emit_21 : decode b_H_emit 21 = .ok (.getfield 16, 3) := by decide +kernel
theorem d_H_emit_24 : decode b_H_emit 24 = .ok (.aload_n 0, 1) := by decide +kernel
theorem d_H_emit_25 : decode b_H_emit 25 = .ok (.getfield 49, 3) := by decide +kernel
theorem d_H_emit_28 : decode b_H_emit 28 = .ok (.iconst 0, 1) := by decide +kernel
theorem d_H_emit_29 : decode b_H_emit 29 = .ok (.bastore, 1) := by decide +kernel
theorem d_H_emit_30 : decode b_H_emit 30 = .ok (.aload_n 0, 1) := by decide +kernel
theorem d_H_emit_31 : decode b_H_emit 31 = .ok (.dup, 1) := by decide +kernel
theorem d_H_emit_32 : decode b_H_emit 32 = .ok (.getfield 49, 3) := by decide +kernel
theorem d_H_emit_35 : decode b_H_emit 35 = .ok (.iconst 1, 1) := by decide +kernel
theorem d_H_emit_36 : decode b_H_emit 36 = .ok (.iadd, 1) := by decide +kernel
theorem d_H_emit_37 : decode b_H_emit 37 = .ok (.putfield 49, 3) := by decide +kernel
theorem d_H_emit_40 : decode b_H_emit 40 = .ok (.return_, 1) := by decide +kernel
theorem d_H_inc_0 : decode b_H_inc 0 = .ok (.aload_n 0, 1) := by decide +kernel
theorem d_H_inc_1 : decode b_H_inc 1 = .ok (.iload_n 1, 1) := by decide +kernel
theorem d_H_inc_2 : decode b_H_inc 2 = .ok (.invokevirtual 61, 3) := by decide +kernel
theorem d_H_inc_5 : decode b_H_inc 5 = .ok (.ifCond .eq 7, 3) := by decide +kernel
theorem d_H_inc_8 : decode b_H_inc 8 = .ok (.iconst (-1), 1) := by decide +kernel
theorem d_H_inc_9 : decode b_H_inc 9 = .ok (.goto 10, 3) := by decide +kernel
theorem d_H_inc_12 : decode b_H_inc 12 = .ok (.aload_n 0, 1) := by decide +kernel
theorem d_H_inc_13 : decode b_H_inc 13 = .ok (.iconst 1, 1) := by decide +kernel
theorem d_H_inc_14 : decode b_H_inc 14 = .ok (.iload_n 1, 1) := by decide +kernel
theorem d_H_inc_15 : decode b_H_inc 15 = .ok (.iconst 0, 1) := by decide +kernel
theorem d_H_inc_16 : decode b_H_inc 16 = .ok (.invokevirtual 57, 3) := by decide +kernel
theorem d_H_inc_19 : decode b_H_inc 19 = .ok (.ireturn, 1) := by decide +kernel
theorem d_H_badReg_0 : decode b_H_badReg 0 = .ok (.iload_n 1, 1) := by decide +kernel
theorem d_H_badReg_1 : decode b_H_badReg 1 = .ok (.ifCond .lt 8, 3) := by decide +kernel
theorem d_H_badReg_4 : decode b_H_badReg 4 = .ok (.iload_n 1, 1) := by decide +kernel
theorem d_H_badReg_5 : decode b_H_badReg 5 = .ok (.iconst 3, 1) := by decide +kernel
theorem d_H_badReg_6 : decode b_H_badReg 6 = .ok (.if_icmp .le 7, 3) := by decide +kernel
theorem d_H_badReg_9 : decode b_H_badReg 9 = .ok (.iconst 1, 1) := by decide +kernel
theorem d_H_badReg_10 : decode b_H_badReg 10 = .ok (.goto 4, 3) := by decide +kernel
theorem d_H_badReg_13 : decode b_H_badReg 13 = .ok (.iconst 0, 1) := by decide +kernel
theorem d_H_badReg_14 : decode b_H_badReg 14 = .ok (.ireturn, 1) := by decide +kernel
theorem d_H_dec_0 : decode b_H_dec 0 = .ok (.aload_n 0, 1) := by decide +kernel
theorem d_H_dec_1 : decode b_H_dec 1 = .ok (.iload_n 1, 1) := by decide +kernel
theorem d_H_dec_2 : decode b_H_dec 2 = .ok (.invokevirtual 61, 3) := by decide +kernel
theorem d_H_dec_5 : decode b_H_dec 5 = .ok (.ifCond .eq 7, 3) := by decide +kernel
theorem d_H_dec_8 : decode b_H_dec 8 = .ok (.iconst (-1), 1) := by decide +kernel
theorem d_H_dec_9 : decode b_H_dec 9 = .ok (.goto 10, 3) := by decide +kernel
theorem d_H_dec_12 : decode b_H_dec 12 = .ok (.aload_n 0, 1) := by decide +kernel
theorem d_H_dec_13 : decode b_H_dec 13 = .ok (.iconst 2, 1) := by decide +kernel
theorem d_H_dec_14 : decode b_H_dec 14 = .ok (.iload_n 1, 1) := by decide +kernel
theorem d_H_dec_15 : decode b_H_dec 15 = .ok (.iconst 0, 1) := by decide +kernel
theorem d_H_dec_16 : decode b_H_dec 16 = .ok (.invokevirtual 57, 3) := by decide +kernel
theorem d_H_dec_19 : decode b_H_dec 19 = .ok (.ireturn, 1) := by decide +kernel
theorem d_H_move_0 : decode b_H_move 0 = .ok (.aload_n 0, 1) := by decide +kernel
theorem d_H_move_1 : decode b_H_move 1 = .ok (.iload_n 1, 1) := by decide +kernel
theorem d_H_move_2 : decode b_H_move 2 = .ok (.invokevirtual 61, 3) := by decide +kernel
theorem d_H_move_5 : decode b_H_move 5 = .ok (.ifCond .ne 11, 3) := by decide +kernel
theorem d_H_move_8 : decode b_H_move 8 = .ok (.aload_n 0, 1) := by decide +kernel
theorem d_H_move_9 : decode b_H_move 9 = .ok (.iload_n 2, 1) := by decide +kernel
theorem d_H_move_10 : decode b_H_move 10 = .ok (.invokevirtual 61, 3) := by decide +kernel
theorem d_H_move_13 : decode b_H_move 13 = .ok (.ifCond .eq 7, 3) := by decide +kernel
theorem d_H_move_16 : decode b_H_move 16 = .ok (.iconst (-1), 1) := by decide +kernel
theorem d_H_move_17 : decode b_H_move 17 = .ok (.goto 14, 3) := by decide +kernel
theorem d_H_move_20 : decode b_H_move 20 = .ok (.aload_n 0, 1) := by decide +kernel
theorem d_H_move_21 : decode b_H_move 21 = .ok (.iconst 3, 1) := by decide +kernel
theorem d_H_move_22 : decode b_H_move 22 = .ok (.iload_n 1, 1) := by decide +kernel
theorem d_H_move_23 : decode b_H_move 23 = .ok (.iconst 4, 1) := by decide +kernel
theorem d_H_move_24 : decode b_H_move 24 = .ok (.iload_n 2, 1) := by decide +kernel
theorem d_H_move_25 : decode b_H_move 25 = .ok (.imul, 1) := by decide +kernel
theorem d_H_move_26 : decode b_H_move 26 = .ok (.iadd, 1) := by decide +kernel
theorem d_H_move_27 : decode b_H_move 27 = .ok (.iconst 0, 1) := by decide +kernel
theorem d_H_move_28 : decode b_H_move 28 = .ok (.invokevirtual 57, 3) := by decide +kernel
theorem d_H_move_31 : decode b_H_move 31 = .ok (.ireturn, 1) := by decide +kernel
theorem d_H_jump_0 : decode b_H_jump 0 = .ok (.aload_n 0, 1) := by decide +kernel
theorem d_H_jump_1 : decode b_H_jump 1 = .ok (.iload_n 1, 1) := by decide +kernel
theorem d_H_jump_2 : decode b_H_jump 2 = .ok (.invokevirtual 65, 3) := by decide +kernel
theorem d_H_jump_5 : decode b_H_jump 5 = .ok (.ifCond .eq 5, 3) := by decide +kernel
theorem d_H_jump_8 : decode b_H_jump 8 = .ok (.iconst (-1), 1) := by decide +kernel
theorem d_H_jump_9 : decode b_H_jump 9 = .ok (.ireturn, 1) := by decide +kernel
theorem d_H_jump_10 : decode b_H_jump 10 = .ok (.aload_n 0, 1) := by decide +kernel
theorem d_H_jump_11 : decode b_H_jump 11 = .ok (.iload_n 1, 1) := by decide +kernel
theorem d_H_jump_12 : decode b_H_jump 12 = .ok (.invokevirtual 68, 3) := by decide +kernel
theorem d_H_jump_15 : decode b_H_jump 15 = .ok (.istore_n 2, 1) := by decide +kernel
theorem d_H_jump_16 : decode b_H_jump 16 = .ok (.aload_n 0, 1) := by decide +kernel
theorem d_H_jump_17 : decode b_H_jump 17 = .ok (.iconst 4, 1) := by decide +kernel
theorem d_H_jump_18 : decode b_H_jump 18 = .ok (.iload_n 2, 1) := by decide +kernel
theorem d_H_jump_19 : decode b_H_jump 19 = .ok (.iconst 0, 1) := by decide +kernel
theorem d_H_jump_20 : decode b_H_jump 20 = .ok (.invokevirtual 57, 3) := by decide +kernel
theorem d_H_jump_23 : decode b_H_jump 23 = .ok (.ireturn, 1) := by decide +kernel
theorem d_H_badTarget_0 : decode b_H_badTarget 0 = .ok (.iload_n 1, 1) := by decide +kernel
theorem d_H_badTarget_1 : decode b_H_badTarget 1 = .ok (.bipush (-128), 2) := by decide +kernel
theorem d_H_badTarget_3 : decode b_H_badTarget 3 = .ok (.if_icmp .lt 9, 3) := by decide +kernel
theorem d_H_badTarget_6 : decode b_H_badTarget 6 = .ok (.iload_n 1, 1) := by decide +kernel
theorem d_H_badTarget_7 : decode b_H_badTarget 7 = .ok (.bipush 127, 2) := by decide +kernel
theorem d_H_badTarget_9 : decode b_H_badTarget 9 = .ok (.if_icmp .le 7, 3) := by decide +kernel
theorem d_H_badTarget_12 : decode b_H_badTarget 12 = .ok (.iconst 1, 1) := by decide +kernel
theorem d_H_badTarget_13 : decode b_H_badTarget 13 = .ok (.goto 4, 3) := by decide +kernel
theorem d_H_badTarget_16 : decode b_H_badTarget 16 = .ok (.iconst 0, 1) := by decide +kernel
theorem d_H_badTarget_17 : decode b_H_badTarget 17 = .ok (.ireturn, 1) := by decide +kernel
theorem d_H_asByte_0 : decode b_H_asByte 0 = .ok (.iload_n 1, 1) := by decide +kernel
theorem d_H_asByte_1 : decode b_H_asByte 1 = .ok (.ifCond .ge 11, 3) := by decide +kernel
theorem d_H_asByte_4 : decode b_H_asByte 4 = .ok (.iload_n 1, 1) := by decide +kernel
theorem d_H_asByte_5 : decode b_H_asByte 5 = .ok (.sipush 256, 3) := by decide +kernel
theorem d_H_asByte_8 : decode b_H_asByte 8 = .ok (.iadd, 1) := by decide +kernel
theorem d_H_asByte_9 : decode b_H_asByte 9 = .ok (.goto 4, 3) := by decide +kernel
theorem d_H_asByte_12 : decode b_H_asByte 12 = .ok (.iload_n 1, 1) := by decide +kernel
theorem d_H_asByte_13 : decode b_H_asByte 13 = .ok (.ireturn, 1) := by decide +kernel
theorem d_H_branch_0 : decode b_H_branch 0 = .ok (.aload_n 0, 1) := by decide +kernel
theorem d_H_branch_1 : decode b_H_branch 1 = .ok (.iload_n 1, 1) := by decide +kernel
theorem d_H_branch_2 : decode b_H_branch 2 = .ok (.invokevirtual 61, 3) := by decide +kernel
theorem d_H_branch_5 : decode b_H_branch 5 = .ok (.ifCond .ne 11, 3) := by decide +kernel
theorem d_H_branch_8 : decode b_H_branch 8 = .ok (.aload_n 0, 1) := by decide +kernel
theorem d_H_branch_9 : decode b_H_branch 9 = .ok (.iload_n 2, 1) := by decide +kernel
theorem d_H_branch_10 : decode b_H_branch 10 = .ok (.invokevirtual 65, 3) := by decide +kernel
theorem d_H_branch_13 : decode b_H_branch 13 = .ok (.ifCond .eq 5, 3) := by decide +kernel
theorem d_H_branch_16 : decode b_H_branch 16 = .ok (.iconst (-1), 1) := by decide +kernel
theorem d_H_branch_17 : decode b_H_branch 17 = .ok (.ireturn, 1) := by decide +kernel
theorem d_H_branch_18 : decode b_H_branch 18 = .ok (.aload_n 0, 1) := by decide +kernel
theorem d_H_branch_19 : decode b_H_branch 19 = .ok (.iload_n 2, 1) := by decide +kernel
theorem d_H_branch_20 : decode b_H_branch 20 = .ok (.invokevirtual 68, 3) := by decide +kernel
theorem d_H_branch_23 : decode b_H_branch 23 = .ok (.istore_n 3, 1) := by decide +kernel
theorem d_H_branch_24 : decode b_H_branch 24 = .ok (.aload_n 0, 1) := by decide +kernel
theorem d_H_branch_25 : decode b_H_branch 25 = .ok (.iconst 5, 1) := by decide +kernel
theorem d_H_branch_26 : decode b_H_branch 26 = .ok (.iload_n 1, 1) := by decide +kernel
theorem d_H_branch_27 : decode b_H_branch 27 = .ok (.iload_n 3, 1) := by decide +kernel
theorem d_H_branch_28 : decode b_H_branch 28 = .ok (.invokevirtual 57, 3) := by decide +kernel
theorem d_H_branch_31 : decode b_H_branch 31 = .ok (.ireturn, 1) := by decide +kernel
theorem d_H_call_0 : decode b_H_call 0 = .ok (.aload_n 0, 1) := by decide +kernel
theorem d_H_call_1 : decode b_H_call 1 = .ok (.iload_n 1, 1) := by decide +kernel
theorem d_H_call_2 : decode b_H_call 2 = .ok (.invokevirtual 65, 3) := by decide +kernel
theorem d_H_call_5 : decode b_H_call 5 = .ok (.ifCond .eq 5, 3) := by decide +kernel
theorem d_H_call_8 : decode b_H_call 8 = .ok (.iconst (-1), 1) := by decide +kernel
theorem d_H_call_9 : decode b_H_call 9 = .ok (.ireturn, 1) := by decide +kernel
theorem d_H_call_10 : decode b_H_call 10 = .ok (.aload_n 0, 1) := by decide +kernel
theorem d_H_call_11 : decode b_H_call 11 = .ok (.iload_n 1, 1) := by decide +kernel
theorem d_H_call_12 : decode b_H_call 12 = .ok (.invokevirtual 68, 3) := by decide +kernel
theorem d_H_call_15 : decode b_H_call 15 = .ok (.istore_n 2, 1) := by decide +kernel
theorem d_H_call_16 : decode b_H_call 16 = .ok (.aload_n 0, 1) := by decide +kernel
theorem d_H_call_17 : decode b_H_call 17 = .ok (.bipush 6, 2) := by decide +kernel
theorem d_H_call_19 : decode b_H_call 19 = .ok (.iload_n 2, 1) := by decide +kernel
theorem d_H_call_20 : decode b_H_call 20 = .ok (.iconst 0, 1) := by decide +kernel
theorem d_H_call_21 : decode b_H_call 21 = .ok (.invokevirtual 57, 3) := by decide +kernel
theorem d_H_call_24 : decode b_H_call 24 = .ok (.ireturn, 1) := by decide +kernel
theorem d_H_giveBack_0 : decode b_H_giveBack 0 = .ok (.aload_n 0, 1) := by decide +kernel
theorem d_H_giveBack_1 : decode b_H_giveBack 1 = .ok (.bipush 7, 2) := by decide +kernel
theorem d_H_giveBack_3 : decode b_H_giveBack 3 = .ok (.iconst 0, 1) := by decide +kernel
theorem d_H_giveBack_4 : decode b_H_giveBack 4 = .ok (.iconst 0, 1) := by decide +kernel
theorem d_H_giveBack_5 : decode b_H_giveBack 5 = .ok (.invokevirtual 57, 3) := by decide +kernel
theorem d_H_giveBack_8 : decode b_H_giveBack 8 = .ok (.ireturn, 1) := by decide +kernel
theorem d_H_where_0 : decode b_H_where 0 = .ok (.aload_n 0, 1) := by decide +kernel
theorem d_H_where_1 : decode b_H_where 1 = .ok (.iload_n 1, 1) := by decide +kernel
theorem d_H_where_2 : decode b_H_where 2 = .ok (.invokevirtual 61, 3) := by decide +kernel
theorem d_H_where_5 : decode b_H_where 5 = .ok (.ifCond .eq 7, 3) := by decide +kernel
theorem d_H_where_8 : decode b_H_where 8 = .ok (.iconst (-1), 1) := by decide +kernel
theorem d_H_where_9 : decode b_H_where 9 = .ok (.goto 11, 3) := by decide +kernel
theorem d_H_where_12 : decode b_H_where 12 = .ok (.aload_n 0, 1) := by decide +kernel
theorem d_H_where_13 : decode b_H_where 13 = .ok (.bipush 8, 2) := by decide +kernel
theorem d_H_where_15 : decode b_H_where 15 = .ok (.iload_n 1, 1) := by decide +kernel
theorem d_H_where_16 : decode b_H_where 16 = .ok (.iconst 0, 1) := by decide +kernel
theorem d_H_where_17 : decode b_H_where 17 = .ok (.invokevirtual 57, 3) := by decide +kernel
theorem d_H_where_20 : decode b_H_where 20 = .ok (.ireturn, 1) := by decide +kernel
theorem d_H_length_0 : decode b_H_length 0 = .ok (.aload_n 0, 1) := by decide +kernel
theorem d_H_length_1 : decode b_H_length 1 = .ok (.getfield 49, 3) := by decide +kernel
theorem d_H_length_4 : decode b_H_length 4 = .ok (.ireturn, 1) := by decide +kernel
theorem d_H_peek_0 : decode b_H_peek 0 = .ok (.iload_n 1, 1) := by decide +kernel
theorem d_H_peek_1 : decode b_H_peek 1 = .ok (.ifCond .lt 11, 3) := by decide +kernel
theorem d_H_peek_4 : decode b_H_peek 4 = .ok (.iload_n 1, 1) := by decide +kernel
theorem d_H_peek_5 : decode b_H_peek 5 = .ok (.aload_n 0, 1) := by decide +kernel
theorem d_H_peek_6 : decode b_H_peek 6 = .ok (.getfield 49, 3) := by decide +kernel
theorem d_H_peek_9 : decode b_H_peek 9 = .ok (.if_icmp .lt 7, 3) := by decide +kernel
theorem d_H_peek_12 : decode b_H_peek 12 = .ok (.iconst (-1), 1) := by decide +kernel
theorem d_H_peek_13 : decode b_H_peek 13 = .ok (.goto 9, 3) := by decide +kernel
theorem d_H_peek_16 : decode b_H_peek 16 = .ok (.aload_n 0, 1) := by decide +kernel
theorem d_H_peek_17 : decode b_H_peek 17 = .ok (.getfield 7, 3) := by decide +kernel
theorem d_H_peek_20 : decode b_H_peek 20 = .ok (.iload_n 1, 1) := by decide +kernel
theorem d_H_peek_21 : decode b_H_peek 21 = .ok (.iaload, 1) := by decide +kernel
theorem d_H_peek_22 : decode b_H_peek 22 = .ok (.ireturn, 1) := by decide +kernel
theorem d_H_clear_0 : decode b_H_clear 0 = .ok (.aload_n 0, 1) := by decide +kernel
theorem d_H_clear_1 : decode b_H_clear 1 = .ok (.invokevirtual 41, 3) := by decide +kernel
theorem d_H_clear_4 : decode b_H_clear 4 = .ok (.istore_n 1, 1) := by decide +kernel
theorem d_H_clear_5 : decode b_H_clear 5 = .ok (.iload_n 1, 1) := by decide +kernel
theorem d_H_clear_6 : decode b_H_clear 6 = .ok (.ifCond .le 6, 3) := by decide +kernel
theorem d_H_clear_9 : decode b_H_clear 9 = .ok (.bipush (-3), 2) := by decide +kernel
theorem d_H_clear_11 : decode b_H_clear 11 = .ok (.ireturn, 1) := by decide +kernel
theorem d_H_clear_12 : decode b_H_clear 12 = .ok (.aload_n 0, 1) := by decide +kernel
theorem d_H_clear_13 : decode b_H_clear 13 = .ok (.getfield 49, 3) := by decide +kernel
theorem d_H_clear_16 : decode b_H_clear 16 = .ok (.istore_n 2, 1) := by decide +kernel
theorem d_H_clear_17 : decode b_H_clear 17 = .ok (.aload_n 0, 1) := by decide +kernel
theorem d_H_clear_18 : decode b_H_clear 18 = .ok (.iconst 0, 1) := by decide +kernel
theorem d_H_clear_19 : decode b_H_clear 19 = .ok (.putfield 49, 3) := by decide +kernel
theorem d_H_clear_22 : decode b_H_clear 22 = .ok (.iload_n 2, 1) := by decide +kernel
theorem d_H_clear_23 : decode b_H_clear 23 = .ok (.ireturn, 1) := by decide +kernel
theorem d_H_setRegister_0 : decode b_H_setRegister 0 = .ok (.aload_n 0, 1) := by decide +kernel
theorem d_H_setRegister_1 : decode b_H_setRegister 1 = .ok (.iload_n 1, 1) := by decide +kernel
theorem d_H_setRegister_2 : decode b_H_setRegister 2 = .ok (.invokevirtual 61, 3) := by decide +kernel
theorem d_H_setRegister_5 : decode b_H_setRegister 5 = .ok (.ifCond .eq 5, 3) := by decide +kernel
theorem d_H_setRegister_8 : decode b_H_setRegister 8 = .ok (.iconst (-1), 1) := by decide +kernel
theorem d_H_setRegister_9 : decode b_H_setRegister 9 = .ok (.ireturn, 1) := by decide +kernel
theorem d_H_setRegister_10 : decode b_H_setRegister 10 = .ok (.aload_n 0, 1) := by decide +kernel
theorem d_H_setRegister_11 : decode b_H_setRegister 11 = .ok (.getfield 35, 3) := by decide +kernel
theorem d_H_setRegister_14 : decode b_H_setRegister 14 = .ok (.iload_n 1, 1) := by decide +kernel
theorem d_H_setRegister_15 : decode b_H_setRegister 15 = .ok (.iload_n 2, 1) := by decide +kernel
theorem d_H_setRegister_16 : decode b_H_setRegister 16 = .ok (.iastore, 1) := by decide +kernel
theorem d_H_setRegister_17 : decode b_H_setRegister 17 = .ok (.iconst 0, 1) := by decide +kernel
theorem d_H_setRegister_18 : decode b_H_setRegister 18 = .ok (.ireturn, 1) := by decide +kernel
theorem d_H_register_0 : decode b_H_register 0 = .ok (.aload_n 0, 1) := by decide +kernel
theorem d_H_register_1 : decode b_H_register 1 = .ok (.iload_n 1, 1) := by decide +kernel
theorem d_H_register_2 : decode b_H_register 2 = .ok (.invokevirtual 61, 3) := by decide +kernel
theorem d_H_register_5 : decode b_H_register 5 = .ok (.ifCond .eq 7, 3) := by decide +kernel
theorem d_H_register_8 : decode b_H_register 8 = .ok (.iconst 0, 1) := by decide +kernel
theorem d_H_register_9 : decode b_H_register 9 = .ok (.goto 9, 3) := by decide +kernel
theorem d_H_register_12 : decode b_H_register 12 = .ok (.aload_n 0, 1) := by decide +kernel
theorem d_H_register_13 : decode b_H_register 13 = .ok (.getfield 35, 3) := by decide +kernel
theorem d_H_register_16 : decode b_H_register 16 = .ok (.iload_n 1, 1) := by decide +kernel
theorem d_H_register_17 : decode b_H_register 17 = .ok (.iaload, 1) := by decide +kernel
theorem d_H_register_18 : decode b_H_register 18 = .ok (.ireturn, 1) := by decide +kernel
theorem d_H_hook_0 : decode b_H_hook 0 = .ok (.iload_n 1, 1) := by decide +kernel
theorem d_H_hook_1 : decode b_H_hook 1 = .ok (.ifCond .lt 9, 3) := by decide +kernel
theorem d_H_hook_4 : decode b_H_hook 4 = .ok (.iload_n 1, 1) := by decide +kernel
theorem d_H_hook_5 : decode b_H_hook 5 = .ok (.bipush 64, 2) := by decide +kernel
theorem d_H_hook_7 : decode b_H_hook 7 = .ok (.if_icmp .lt 5, 3) := by decide +kernel
theorem d_H_hook_10 : decode b_H_hook 10 = .ok (.iconst (-1), 1) := by decide +kernel
theorem d_H_hook_11 : decode b_H_hook 11 = .ok (.ireturn, 1) := by decide +kernel
theorem d_H_hook_12 : decode b_H_hook 12 = .ok (.aload_n 0, 1) := by decide +kernel
theorem d_H_hook_13 : decode b_H_hook 13 = .ok (.iload_n 1, 1) := by decide +kernel
theorem d_H_hook_14 : decode b_H_hook 14 = .ok (.invokevirtual 74, 3) := by decide +kernel
theorem d_H_hook_17 : decode b_H_hook 17 = .ok (.istore_n 2, 1) := by decide +kernel
theorem d_H_hook_18 : decode b_H_hook 18 = .ok (.iload_n 2, 1) := by decide +kernel
theorem d_H_hook_19 : decode b_H_hook 19 = .ok (.ifCond .lt 6, 3) := by decide +kernel
theorem d_H_hook_22 : decode b_H_hook 22 = .ok (.bipush (-3), 2) := by decide +kernel
theorem d_H_hook_24 : decode b_H_hook 24 = .ok (.ireturn, 1) := by decide +kernel
theorem d_H_hook_25 : decode b_H_hook 25 = .ok (.aload_n 0, 1) := by decide +kernel
theorem d_H_hook_26 : decode b_H_hook 26 = .ok (.iconst (-1), 1) := by decide +kernel
theorem d_H_hook_27 : decode b_H_hook 27 = .ok (.invokevirtual 74, 3) := by decide +kernel
theorem d_H_hook_30 : decode b_H_hook 30 = .ok (.istore_n 2, 1) := by decide +kernel
theorem d_H_hook_31 : decode b_H_hook 31 = .ok (.iload_n 2, 1) := by decide +kernel
theorem d_H_hook_32 : decode b_H_hook 32 = .ok (.ifCond .ge 6, 3) := by decide +kernel
theorem d_H_hook_35 : decode b_H_hook 35 = .ok (.bipush (-2), 2) := by decide +kernel
theorem d_H_hook_37 : decode b_H_hook 37 = .ok (.ireturn, 1) := by decide +kernel
theorem d_H_hook_38 : decode b_H_hook 38 = .ok (.aload_n 0, 1) := by decide +kernel
theorem d_H_hook_39 : decode b_H_hook 39 = .ok (.iload_n 1, 1) := by decide +kernel
theorem d_H_hook_40 : decode b_H_hook 40 = .ok (.invokevirtual 77, 3) := by decide +kernel
theorem d_H_hook_43 : decode b_H_hook 43 = .ok (.istore_n 3, 1) := by decide +kernel
theorem d_H_hook_44 : decode b_H_hook 44 = .ok (.iload_n 3, 1) := by decide +kernel
theorem d_H_hook_45 : decode b_H_hook 45 = .ok (.ifCond .eq 13, 3) := by decide +kernel
theorem d_H_hook_48 : decode b_H_hook 48 = .ok (.iload_n 1, 1) := by decide +kernel
theorem d_H_hook_49 : decode b_H_hook 49 = .ok (.iconst 3, 1) := by decide +kernel
theorem d_H_hook_50 : decode b_H_hook 50 = .ok (.iadd, 1) := by decide +kernel
theorem d_H_hook_51 : decode b_H_hook 51 = .ok (.aload_n 0, 1) := by decide +kernel
theorem d_H_hook_52 : decode b_H_hook 52 = .ok (.getfield 49, 3) := by decide +kernel
theorem d_H_hook_55 : decode b_H_hook 55 = .ok (.if_icmp .le 6, 3) := by decide +kernel
theorem d_H_hook_58 : decode b_H_hook 58 = .ok (.bipush (-4), 2) := by decide +kernel
theorem d_H_hook_60 : decode b_H_hook 60 = .ok (.ireturn, 1) := by decide +kernel
theorem d_H_hook_61 : decode b_H_hook 61 = .ok (.aload_n 0, 1) := by decide +kernel
theorem d_H_hook_62 : decode b_H_hook 62 = .ok (.iload_n 1, 1) := by decide +kernel
theorem d_H_hook_63 : decode b_H_hook 63 = .ok (.invokevirtual 80, 3) := by decide +kernel
theorem d_H_hook_66 : decode b_H_hook 66 = .ok (.istore 4, 2) := by decide +kernel
theorem d_H_hook_68 : decode b_H_hook 68 = .ok (.aload_n 0, 1) := by decide +kernel
theorem d_H_hook_69 : decode b_H_hook 69 = .ok (.iload_n 1, 1) := by decide +kernel
theorem d_H_hook_70 : decode b_H_hook 70 = .ok (.iload 4, 2) := by decide +kernel
theorem d_H_hook_72 : decode b_H_hook 72 = .ok (.invokevirtual 83, 3) := by decide +kernel
theorem d_H_hook_75 : decode b_H_hook 75 = .ok (.istore 5, 2) := by decide +kernel
theorem d_H_hook_77 : decode b_H_hook 77 = .ok (.aload_n 0, 1) := by decide +kernel
theorem d_H_hook_78 : decode b_H_hook 78 = .ok (.iload_n 1, 1) := by decide +kernel
theorem d_H_hook_79 : decode b_H_hook 79 = .ok (.iload 4, 2) := by decide +kernel
theorem d_H_hook_81 : decode b_H_hook 81 = .ok (.invokevirtual 87, 3) := by decide +kernel
theorem d_H_hook_84 : decode b_H_hook 84 = .ok (.istore 6, 2) := by decide +kernel
theorem d_H_hook_86 : decode b_H_hook 86 = .ok (.iload 5, 2) := by decide +kernel
theorem d_H_hook_88 : decode b_H_hook 88 = .ok (.ifCond .ne 8, 3) := by decide +kernel
theorem d_H_hook_91 : decode b_H_hook 91 = .ok (.iload 6, 2) := by decide +kernel
theorem d_H_hook_93 : decode b_H_hook 93 = .ok (.ifCond .eq 6, 3) := by decide +kernel
theorem d_H_hook_96 : decode b_H_hook 96 = .ok (.bipush (-4), 2) := by decide +kernel
theorem d_H_hook_98 : decode b_H_hook 98 = .ok (.ireturn, 1) := by decide +kernel
theorem d_H_hook_99 : decode b_H_hook 99 = .ok (.aload_n 0, 1) := by decide +kernel
theorem d_H_hook_100 : decode b_H_hook 100 = .ok (.getfield 26, 3) := by decide +kernel
theorem d_H_hook_103 : decode b_H_hook 103 = .ok (.iload_n 2, 1) := by decide +kernel
theorem d_H_hook_104 : decode b_H_hook 104 = .ok (.iload_n 1, 1) := by decide +kernel
theorem d_H_hook_105 : decode b_H_hook 105 = .ok (.iastore, 1) := by decide +kernel
theorem d_H_hook_106 : decode b_H_hook 106 = .ok (.aload_n 0, 1) := by decide +kernel
theorem d_H_hook_107 : decode b_H_hook 107 = .ok (.getfield 29, 3) := by decide +kernel
theorem d_H_hook_110 : decode b_H_hook 110 = .ok (.iload_n 2, 1) := by decide +kernel
theorem d_H_hook_111 : decode b_H_hook 111 = .ok (.iload 4, 2) := by decide +kernel
theorem d_H_hook_113 : decode b_H_hook 113 = .ok (.iastore, 1) := by decide +kernel
theorem d_H_hook_114 : decode b_H_hook 114 = .ok (.aload_n 0, 1) := by decide +kernel
theorem d_H_hook_115 : decode b_H_hook 115 = .ok (.getfield 32, 3) := by decide +kernel
theorem d_H_hook_118 : decode b_H_hook 118 = .ok (.iload_n 2, 1) := by decide +kernel
theorem d_H_hook_119 : decode b_H_hook 119 = .ok (.iconst 0, 1) := by decide +kernel
theorem d_H_hook_120 : decode b_H_hook 120 = .ok (.iastore, 1) := by decide +kernel
theorem d_H_hook_121 : decode b_H_hook 121 = .ok (.aload_n 0, 1) := by decide +kernel
theorem d_H_hook_122 : decode b_H_hook 122 = .ok (.iload_n 2, 1) := by decide +kernel
theorem d_H_hook_123 : decode b_H_hook 123 = .ok (.iload_n 1, 1) := by decide +kernel
theorem d_H_hook_124 : decode b_H_hook 124 = .ok (.iload 4, 2) := by decide +kernel
theorem d_H_hook_126 : decode b_H_hook 126 = .ok (.invokevirtual 90, 3) := by decide +kernel
theorem d_H_hook_129 : decode b_H_hook 129 = .ok (.aload_n 0, 1) := by decide +kernel
theorem d_H_hook_130 : decode b_H_hook 130 = .ok (.iload_n 2, 1) := by decide +kernel
theorem d_H_hook_131 : decode b_H_hook 131 = .ok (.iload_n 1, 1) := by decide +kernel
theorem d_H_hook_132 : decode b_H_hook 132 = .ok (.iload 4, 2) := by decide +kernel
theorem d_H_hook_134 : decode b_H_hook 134 = .ok (.invokevirtual 94, 3) := by decide +kernel
theorem d_H_hook_137 : decode b_H_hook 137 = .ok (.iload 4, 2) := by decide +kernel
theorem d_H_hook_139 : decode b_H_hook 139 = .ok (.ireturn, 1) := by decide +kernel
theorem d_H_slotOf_0 : decode b_H_slotOf 0 = .ok (.iconst (-1), 1) := by decide +kernel
theorem d_H_slotOf_1 : decode b_H_slotOf 1 = .ok (.istore_n 2, 1) := by decide +kernel
theorem d_H_slotOf_2 : decode b_H_slotOf 2 = .ok (.iconst 0, 1) := by decide +kernel
theorem d_H_slotOf_3 : decode b_H_slotOf 3 = .ok (.istore_n 3, 1) := by decide +kernel
theorem d_H_slotOf_4 : decode b_H_slotOf 4 = .ok (.iload_n 3, 1) := by decide +kernel
theorem d_H_slotOf_5 : decode b_H_slotOf 5 = .ok (.iconst 4, 1) := by decide +kernel
theorem d_H_slotOf_6 : decode b_H_slotOf 6 = .ok (.if_icmp .ge 21, 3) := by decide +kernel
theorem d_H_slotOf_9 : decode b_H_slotOf 9 = .ok (.aload_n 0, 1) := by decide +kernel
theorem d_H_slotOf_10 : decode b_H_slotOf 10 = .ok (.getfield 26, 3) := by decide +kernel
theorem d_H_slotOf_13 : decode b_H_slotOf 13 = .ok (.iload_n 3, 1) := by decide +kernel
theorem d_H_slotOf_14 : decode b_H_slotOf 14 = .ok (.iaload, 1) := by decide +kernel
theorem d_H_slotOf_15 : decode b_H_slotOf 15 = .ok (.iload_n 1, 1) := by decide +kernel
theorem d_H_slotOf_16 : decode b_H_slotOf 16 = .ok (.if_icmp .ne 5, 3) := by decide +kernel
theorem d_H_slotOf_19 : decode b_H_slotOf 19 = .ok (.iload_n 3, 1) := by decide +kernel
theorem d_H_slotOf_20 : decode b_H_slotOf 20 = .ok (.istore_n 2, 1) := by decide +kernel
theorem d_H_slotOf_21 : decode b_H_slotOf 21 = .ok (.iinc 3 1, 3) := by decide +kernel
theorem d_H_slotOf_24 : decode b_H_slotOf 24 = .ok (.goto (-20), 3) := by decide +kernel
theorem d_H_slotOf_27 : decode b_H_slotOf 27 = .ok (.iload_n 2, 1) := by decide +kernel
theorem d_H_slotOf_28 : decode b_H_slotOf 28 = .ok (.ireturn, 1) := by decide +kernel
theorem d_H_isStart_0 : decode b_H_isStart 0 = .ok (.iload_n 1, 1) := by decide +kernel
theorem d_H_isStart_1 : decode b_H_isStart 1 = .ok (.ifCond .lt 24, 3) := by decide +kernel
theorem d_H_isStart_4 : decode b_H_isStart 4 = .ok (.iload_n 1, 1) := by decide +kernel
theorem d_H_isStart_5 : decode b_H_isStart 5 = .ok (.aload_n 0, 1) := by decide +kernel
theorem d_H_isStart_6 : decode b_H_isStart 6 = .ok (.getfield 49, 3) := by decide +kernel
theorem d_H_isStart_9 : decode b_H_isStart 9 = .ok (.if_icmp .ge 16, 3) := by decide +kernel
theorem d_H_isStart_12 : decode b_H_isStart 12 = .ok (.aload_n 0, 1) := by decide +kernel
theorem d_H_isStart_13 : decode b_H_isStart 13 = .ok (.getfield 16, 3) := by decide +kernel
theorem d_H_isStart_16 : decode b_H_isStart 16 = .ok (.iload_n 1, 1) := by decide +kernel
theorem d_H_isStart_17 : decode b_H_isStart 17 = .ok (.baload, 1) := by decide +kernel
theorem d_H_isStart_18 : decode b_H_isStart 18 = .ok (.ifCond .eq 7, 3) := by decide +kernel
theorem d_H_isStart_21 : decode b_H_isStart 21 = .ok (.iconst 1, 1) := by decide +kernel
theorem d_H_isStart_22 : decode b_H_isStart 22 = .ok (.goto 4, 3) := by decide +kernel
theorem d_H_isStart_25 : decode b_H_isStart 25 = .ok (.iconst 0, 1) := by decide +kernel
theorem d_H_isStart_26 : decode b_H_isStart 26 = .ok (.ireturn, 1) := by decide +kernel
theorem d_H_headOf_0 : decode b_H_headOf 0 = .ok (.iconst 0, 1) := by decide +kernel
theorem d_H_headOf_1 : decode b_H_headOf 1 = .ok (.istore_n 2, 1) := by decide +kernel
theorem d_H_headOf_2 : decode b_H_headOf 2 = .ok (.iconst 0, 1) := by decide +kernel
theorem d_H_headOf_3 : decode b_H_headOf 3 = .ok (.istore_n 3, 1) := by decide +kernel
theorem d_H_headOf_4 : decode b_H_headOf 4 = .ok (.iload_n 3, 1) := by decide +kernel
theorem d_H_headOf_5 : decode b_H_headOf 5 = .ok (.iconst 3, 1) := by decide +kernel
theorem d_H_headOf_6 : decode b_H_headOf 6 = .ok (.if_icmp .ge 29, 3) := by decide +kernel
theorem d_H_headOf_9 : decode b_H_headOf 9 = .ok (.iload_n 2, 1) := by decide +kernel
theorem d_H_headOf_10 : decode b_H_headOf 10 = .ok (.iconst 3, 1) := by decide +kernel
theorem d_H_headOf_11 : decode b_H_headOf 11 = .ok (.if_icmp .ge 24, 3) := by decide +kernel
theorem d_H_headOf_14 : decode b_H_headOf 14 = .ok (.iload_n 2, 1) := by decide +kernel
theorem d_H_headOf_15 : decode b_H_headOf 15 = .ok (.aload_n 0, 1) := by decide +kernel
theorem d_H_headOf_16 : decode b_H_headOf 16 = .ok (.aload_n 0, 1) := by decide +kernel
theorem d_H_headOf_17 : decode b_H_headOf 17 = .ok (.getfield 7, 3) := by decide +kernel
theorem d_H_headOf_20 : decode b_H_headOf 20 = .ok (.iload_n 1, 1) := by decide +kernel
theorem d_H_headOf_21 : decode b_H_headOf 21 = .ok (.iload_n 2, 1) := by decide +kernel
theorem d_H_headOf_22 : decode b_H_headOf 22 = .ok (.iadd, 1) := by decide +kernel
theorem d_H_headOf_23 : decode b_H_headOf 23 = .ok (.iaload, 1) := by decide +kernel
theorem d_H_headOf_24 : decode b_H_headOf 24 = .ok (.invokevirtual 45, 3) := by decide +kernel
theorem d_H_headOf_27 : decode b_H_headOf 27 = .ok (.iadd, 1) := by decide +kernel
theorem d_H_headOf_28 : decode b_H_headOf 28 = .ok (.istore_n 2, 1) := by decide +kernel
theorem d_H_headOf_29 : decode b_H_headOf 29 = .ok (.iinc 3 1, 3) := by decide +kernel
theorem d_H_headOf_32 : decode b_H_headOf 32 = .ok (.goto (-28), 3) := by decide +kernel
theorem d_H_headOf_35 : decode b_H_headOf 35 = .ok (.iload_n 2, 1) := by decide +kernel
theorem d_H_headOf_36 : decode b_H_headOf 36 = .ok (.ireturn, 1) := by decide +kernel
theorem d_H_meetsHead_0 : decode b_H_meetsHead 0 = .ok (.iconst 0, 1) := by decide +kernel
theorem d_H_meetsHead_1 : decode b_H_meetsHead 1 = .ok (.istore_n 3, 1) := by decide +kernel
theorem d_H_meetsHead_2 : decode b_H_meetsHead 2 = .ok (.iconst 0, 1) := by decide +kernel
theorem d_H_meetsHead_3 : decode b_H_meetsHead 3 = .ok (.istore 4, 2) := by decide +kernel
theorem d_H_meetsHead_5 : decode b_H_meetsHead 5 = .ok (.iload 4, 2) := by decide +kernel
theorem d_H_meetsHead_7 : decode b_H_meetsHead 7 = .ok (.iconst 4, 1) := by decide +kernel
theorem d_H_meetsHead_8 : decode b_H_meetsHead 8 = .ok (.if_icmp .ge 53, 3) := by decide +kernel
theorem d_H_meetsHead_11 : decode b_H_meetsHead 11 = .ok (.aload_n 0, 1) := by decide +kernel
theorem d_H_meetsHead_12 : decode b_H_meetsHead 12 = .ok (.getfield 26, 3) := by decide +kernel
theorem d_H_meetsHead_15 : decode b_H_meetsHead 15 = .ok (.iload 4, 2) := by decide +kernel
theorem d_H_meetsHead_17 : decode b_H_meetsHead 17 = .ok (.iaload, 1) := by decide +kernel
theorem d_H_meetsHead_18 : decode b_H_meetsHead 18 = .ok (.ifCond .lt 37, 3) := by decide +kernel
theorem d_H_meetsHead_21 : decode b_H_meetsHead 21 = .ok (.iload_n 1, 1) := by decide +kernel
theorem d_H_meetsHead_22 : decode b_H_meetsHead 22 = .ok (.aload_n 0, 1) := by decide +kernel
theorem d_H_meetsHead_23 : decode b_H_meetsHead 23 = .ok (.getfield 26, 3) := by decide +kernel
theorem d_H_meetsHead_26 : decode b_H_meetsHead 26 = .ok (.iload 4, 2) := by decide +kernel
theorem d_H_meetsHead_28 : decode b_H_meetsHead 28 = .ok (.iaload, 1) := by decide +kernel
theorem d_H_meetsHead_29 : decode b_H_meetsHead 29 = .ok (.aload_n 0, 1) := by decide +kernel
theorem d_H_meetsHead_30 : decode b_H_meetsHead 30 = .ok (.getfield 29, 3) := by decide +kernel
theorem d_H_meetsHead_33 : decode b_H_meetsHead 33 = .ok (.iload 4, 2) := by decide +kernel
theorem d_H_meetsHead_35 : decode b_H_meetsHead 35 = .ok (.iaload, 1) := by decide +kernel
theorem d_H_meetsHead_36 : decode b_H_meetsHead 36 = .ok (.iadd, 1) := by decide +kernel
theorem d_H_meetsHead_37 : decode b_H_meetsHead 37 = .ok (.if_icmp .ge 18, 3) := by decide +kernel
theorem d_H_meetsHead_40 : decode b_H_meetsHead 40 = .ok (.aload_n 0, 1) := by decide +kernel
theorem d_H_meetsHead_41 : decode b_H_meetsHead 41 = .ok (.getfield 26, 3) := by decide +kernel
theorem d_H_meetsHead_44 : decode b_H_meetsHead 44 = .ok (.iload 4, 2) := by decide +kernel
theorem d_H_meetsHead_46 : decode b_H_meetsHead 46 = .ok (.iaload, 1) := by decide +kernel
theorem d_H_meetsHead_47 : decode b_H_meetsHead 47 = .ok (.iload_n 1, 1) := by decide +kernel
theorem d_H_meetsHead_48 : decode b_H_meetsHead 48 = .ok (.iload_n 2, 1) := by decide +kernel
theorem d_H_meetsHead_49 : decode b_H_meetsHead 49 = .ok (.iadd, 1) := by decide +kernel
theorem d_H_meetsHead_50 : decode b_H_meetsHead 50 = .ok (.if_icmp .ge 5, 3) := by decide +kernel
theorem d_H_meetsHead_53 : decode b_H_meetsHead 53 = .ok (.iconst 1, 1) := by decide +kernel
theorem d_H_meetsHead_54 : decode b_H_meetsHead 54 = .ok (.istore_n 3, 1) := by decide +kernel
theorem d_H_meetsHead_55 : decode b_H_meetsHead 55 = .ok (.iinc 4 1, 3) := by decide +kernel
theorem d_H_meetsHead_58 : decode b_H_meetsHead 58 = .ok (.goto (-53), 3) := by decide +kernel
theorem d_H_meetsHead_61 : decode b_H_meetsHead 61 = .ok (.iload_n 3, 1) := by decide +kernel
theorem d_H_meetsHead_62 : decode b_H_meetsHead 62 = .ok (.ireturn, 1) := by decide +kernel
theorem d_H_aimedInside_0 : decode b_H_aimedInside 0 = .ok (.iconst 0, 1) := by decide +kernel
theorem d_H_aimedInside_1 : decode b_H_aimedInside 1 = .ok (.istore_n 3, 1) := by decide +kernel
theorem d_H_aimedInside_2 : decode b_H_aimedInside 2 = .ok (.iconst 0, 1) := by decide +kernel
theorem d_H_aimedInside_3 : decode b_H_aimedInside 3 = .ok (.istore 4, 2) := by decide +kernel
theorem d_H_aimedInside_5 : decode b_H_aimedInside 5 = .ok (.iload 4, 2) := by decide +kernel
theorem d_H_aimedInside_7 : decode b_H_aimedInside 7 = .ok (.aload_n 0, 1) := by decide +kernel
theorem d_H_aimedInside_8 : decode b_H_aimedInside 8 = .ok (.getfield 49, 3) := by decide +kernel
theorem d_H_aimedInside_11 : decode b_H_aimedInside 11 = .ok (.if_icmp .ge 51, 3) := by decide +kernel
theorem d_H_aimedInside_14 : decode b_H_aimedInside 14 = .ok (.aload_n 0, 1) := by decide +kernel
theorem d_H_aimedInside_15 : decode b_H_aimedInside 15 = .ok (.getfield 16, 3) := by decide +kernel
theorem d_H_aimedInside_18 : decode b_H_aimedInside 18 = .ok (.iload 4, 2) := by decide +kernel
theorem d_H_aimedInside_20 : decode b_H_aimedInside 20 = .ok (.baload, 1) := by decide +kernel
theorem d_H_aimedInside_21 : decode b_H_aimedInside 21 = .ok (.ifCond .eq 35, 3) := by decide +kernel
theorem d_H_aimedInside_24 : decode b_H_aimedInside 24 = .ok (.aload_n 0, 1) := by decide +kernel
theorem d_H_aimedInside_25 : decode b_H_aimedInside 25 = .ok (.iload 4, 2) := by decide +kernel
theorem d_H_aimedInside_27 : decode b_H_aimedInside 27 = .ok (.invokevirtual 71, 3) := by decide +kernel
theorem d_H_aimedInside_30 : decode b_H_aimedInside 30 = .ok (.istore 5, 2) := by decide +kernel
theorem d_H_aimedInside_32 : decode b_H_aimedInside 32 = .ok (.iload_n 3, 1) := by decide +kernel
theorem d_H_aimedInside_33 : decode b_H_aimedInside 33 = .ok (.ifCond .ne 17, 3) := by decide +kernel
theorem d_H_aimedInside_36 : decode b_H_aimedInside 36 = .ok (.iload 5, 2) := by decide +kernel
theorem d_H_aimedInside_38 : decode b_H_aimedInside 38 = .ok (.iload_n 1, 1) := by decide +kernel
theorem d_H_aimedInside_39 : decode b_H_aimedInside 39 = .ok (.if_icmp .le 15, 3) := by decide +kernel
theorem d_H_aimedInside_42 : decode b_H_aimedInside 42 = .ok (.iload 5, 2) := by decide +kernel
theorem d_H_aimedInside_44 : decode b_H_aimedInside 44 = .ok (.iload_n 1, 1) := by decide +kernel
theorem d_H_aimedInside_45 : decode b_H_aimedInside 45 = .ok (.iload_n 2, 1) := by decide +kernel
theorem d_H_aimedInside_46 : decode b_H_aimedInside 46 = .ok (.iadd, 1) := by decide +kernel
theorem d_H_aimedInside_47 : decode b_H_aimedInside 47 = .ok (.if_icmp .ge 7, 3) := by decide +kernel
theorem d_H_aimedInside_50 : decode b_H_aimedInside 50 = .ok (.iconst 1, 1) := by decide +kernel
theorem d_H_aimedInside_51 : decode b_H_aimedInside 51 = .ok (.goto 4, 3) := by decide +kernel
theorem d_H_aimedInside_54 : decode b_H_aimedInside 54 = .ok (.iconst 0, 1) := by decide +kernel
theorem d_H_aimedInside_55 : decode b_H_aimedInside 55 = .ok (.istore_n 3, 1) := by decide +kernel
theorem d_H_aimedInside_56 : decode b_H_aimedInside 56 = .ok (.iinc 4 1, 3) := by decide +kernel
theorem d_H_aimedInside_59 : decode b_H_aimedInside 59 = .ok (.goto (-54), 3) := by decide +kernel
theorem d_H_aimedInside_62 : decode b_H_aimedInside 62 = .ok (.iload_n 3, 1) := by decide +kernel
theorem d_H_aimedInside_63 : decode b_H_aimedInside 63 = .ok (.ireturn, 1) := by decide +kernel
theorem d_H_targetOf_0 : decode b_H_targetOf 0 = .ok (.aload_n 0, 1) := by decide +kernel
theorem d_H_targetOf_1 : decode b_H_targetOf 1 = .ok (.getfield 7, 3) := by decide +kernel
theorem d_H_targetOf_4 : decode b_H_targetOf 4 = .ok (.iload_n 1, 1) := by decide +kernel
theorem d_H_targetOf_5 : decode b_H_targetOf 5 = .ok (.iaload, 1) := by decide +kernel
theorem d_H_targetOf_6 : decode b_H_targetOf 6 = .ok (.istore_n 2, 1) := by decide +kernel
theorem d_H_targetOf_7 : decode b_H_targetOf 7 = .ok (.iload_n 2, 1) := by decide +kernel
theorem d_H_targetOf_8 : decode b_H_targetOf 8 = .ok (.iconst 4, 1) := by decide +kernel
theorem d_H_targetOf_9 : decode b_H_targetOf 9 = .ok (.if_icmp .lt 9, 3) := by decide +kernel
theorem d_H_targetOf_12 : decode b_H_targetOf 12 = .ok (.iload_n 2, 1) := by decide +kernel
theorem d_H_targetOf_13 : decode b_H_targetOf 13 = .ok (.bipush 6, 2) := by decide +kernel
theorem d_H_targetOf_15 : decode b_H_targetOf 15 = .ok (.if_icmp .le 7, 3) := by decide +kernel
theorem d_H_targetOf_18 : decode b_H_targetOf 18 = .ok (.sipush (-1000), 3) := by decide +kernel
theorem d_H_targetOf_21 : decode b_H_targetOf 21 = .ok (.ireturn, 1) := by decide +kernel
theorem d_H_targetOf_22 : decode b_H_targetOf 22 = .ok (.aload_n 0, 1) := by decide +kernel
theorem d_H_targetOf_23 : decode b_H_targetOf 23 = .ok (.iload_n 2, 1) := by decide +kernel
theorem d_H_targetOf_24 : decode b_H_targetOf 24 = .ok (.invokevirtual 45, 3) := by decide +kernel
theorem d_H_targetOf_27 : decode b_H_targetOf 27 = .ok (.istore_n 3, 1) := by decide +kernel
theorem d_H_targetOf_28 : decode b_H_targetOf 28 = .ok (.aload_n 0, 1) := by decide +kernel
theorem d_H_targetOf_29 : decode b_H_targetOf 29 = .ok (.getfield 7, 3) := by decide +kernel
theorem d_H_targetOf_32 : decode b_H_targetOf 32 = .ok (.iload_n 1, 1) := by decide +kernel
theorem d_H_targetOf_33 : decode b_H_targetOf 33 = .ok (.iload_n 3, 1) := by decide +kernel
theorem d_H_targetOf_34 : decode b_H_targetOf 34 = .ok (.iadd, 1) := by decide +kernel
theorem d_H_targetOf_35 : decode b_H_targetOf 35 = .ok (.iconst 1, 1) := by decide +kernel
theorem d_H_targetOf_36 : decode b_H_targetOf 36 = .ok (.isub, 1) := by decide +kernel
theorem d_H_targetOf_37 : decode b_H_targetOf 37 = .ok (.iaload, 1) := by decide +kernel
theorem d_H_targetOf_38 : decode b_H_targetOf 38 = .ok (.istore 4, 2) := by decide +kernel
theorem d_H_targetOf_40 : decode b_H_targetOf 40 = .ok (.iload 4, 2) := by decide +kernel
theorem d_H_targetOf_42 : decode b_H_targetOf 42 = .ok (.bipush 127, 2) := by decide +kernel
theorem d_H_targetOf_44 : decode b_H_targetOf 44 = .ok (.if_icmp .le 12, 3) := by decide +kernel
theorem d_H_targetOf_47 : decode b_H_targetOf 47 = .ok (.iload 4, 2) := by decide +kernel
theorem d_H_targetOf_49 : decode b_H_targetOf 49 = .ok (.sipush 256, 3) := by decide +kernel
theorem d_H_targetOf_52 : decode b_H_targetOf 52 = .ok (.isub, 1) := by decide +kernel
theorem d_H_targetOf_53 : decode b_H_targetOf 53 = .ok (.goto 5, 3) := by decide +kernel
theorem d_H_targetOf_56 : decode b_H_targetOf 56 = .ok (.iload 4, 2) := by decide +kernel
theorem d_H_targetOf_58 : decode b_H_targetOf 58 = .ok (.istore 5, 2) := by decide +kernel
theorem d_H_targetOf_60 : decode b_H_targetOf 60 = .ok (.iload_n 1, 1) := by decide +kernel
theorem d_H_targetOf_61 : decode b_H_targetOf 61 = .ok (.iload_n 3, 1) := by decide +kernel
theorem d_H_targetOf_62 : decode b_H_targetOf 62 = .ok (.iadd, 1) := by decide +kernel
theorem d_H_targetOf_63 : decode b_H_targetOf 63 = .ok (.iload 5, 2) := by decide +kernel
theorem d_H_targetOf_65 : decode b_H_targetOf 65 = .ok (.iadd, 1) := by decide +kernel
theorem d_H_targetOf_66 : decode b_H_targetOf 66 = .ok (.ireturn, 1) := by decide +kernel
theorem d_H_displace_0 : decode b_H_displace 0 = .ok (.aload_n 0, 1) := by decide +kernel
theorem d_H_displace_1 : decode b_H_displace 1 = .ok (.iload_n 1, 1) := by decide +kernel
theorem d_H_displace_2 : decode b_H_displace 2 = .ok (.bipush 16, 2) := by decide +kernel
theorem d_H_displace_4 : decode b_H_displace 4 = .ok (.imul, 1) := by decide +kernel
theorem d_H_displace_5 : decode b_H_displace 5 = .ok (.putfield 97, 3) := by decide +kernel
theorem d_H_displace_8 : decode b_H_displace 8 = .ok (.aload_n 0, 1) := by decide +kernel
theorem d_H_displace_9 : decode b_H_displace 9 = .ok (.bipush 10, 2) := by decide +kernel
theorem d_H_displace_11 : decode b_H_displace 11 = .ok (.invokevirtual 100, 3) := by decide +kernel
theorem d_H_displace_14 : decode b_H_displace 14 = .ok (.aload_n 0, 1) := by decide +kernel
theorem d_H_displace_15 : decode b_H_displace 15 = .ok (.iload_n 1, 1) := by decide +kernel
theorem d_H_displace_16 : decode b_H_displace 16 = .ok (.invokevirtual 100, 3) := by decide +kernel
theorem d_H_displace_19 : decode b_H_displace 19 = .ok (.iload_n 2, 1) := by decide +kernel
theorem d_H_displace_20 : decode b_H_displace 20 = .ok (.istore 4, 2) := by decide +kernel
theorem d_H_displace_22 : decode b_H_displace 22 = .ok (.iconst 0, 1) := by decide +kernel
theorem d_H_displace_23 : decode b_H_displace 23 = .ok (.istore 5, 2) := by decide +kernel
theorem d_H_displace_25 : decode b_H_displace 25 = .ok (.iload 5, 2) := by decide +kernel
theorem d_H_displace_27 : decode b_H_displace 27 = .ok (.iconst 3, 1) := by decide +kernel
theorem d_H_displace_28 : decode b_H_displace 28 = .ok (.if_icmp .ge 54, 3) := by decide +kernel
theorem d_H_displace_31 : decode b_H_displace 31 = .ok (.iload 4, 2) := by decide +kernel
theorem d_H_displace_33 : decode b_H_displace 33 = .ok (.iload_n 2, 1) := by decide +kernel
theorem d_H_displace_34 : decode b_H_displace 34 = .ok (.iload_n 3, 1) := by decide +kernel
theorem d_H_displace_35 : decode b_H_displace 35 = .ok (.iadd, 1) := by decide +kernel
theorem d_H_displace_36 : decode b_H_displace 36 = .ok (.if_icmp .ge 46, 3) := by decide +kernel
theorem d_H_displace_39 : decode b_H_displace 39 = .ok (.aload_n 0, 1) := by decide +kernel
theorem d_H_displace_40 : decode b_H_displace 40 = .ok (.getfield 20, 3) := by decide +kernel
theorem d_H_displace_43 : decode b_H_displace 43 = .ok (.iload 4, 2) := by decide +kernel
theorem d_H_displace_45 : decode b_H_displace 45 = .ok (.sipush 512, 3) := by decide +kernel
theorem d_H_displace_48 : decode b_H_displace 48 = .ok (.aload_n 0, 1) := by decide +kernel
theorem d_H_displace_49 : decode b_H_displace 49 = .ok (.getfield 97, 3) := by decide +kernel
theorem d_H_displace_52 : decode b_H_displace 52 = .ok (.iadd, 1) := by decide +kernel
theorem d_H_displace_53 : decode b_H_displace 53 = .ok (.iastore, 1) := by decide +kernel
theorem d_H_displace_54 : decode b_H_displace 54 = .ok (.aload_n 0, 1) := by decide +kernel
theorem d_H_displace_55 : decode b_H_displace 55 = .ok (.iload 4, 2) := by decide +kernel
theorem d_H_displace_57 : decode b_H_displace 57 = .ok (.invokevirtual 103, 3) := by decide +kernel
theorem d_H_displace_60 : decode b_H_displace 60 = .ok (.iload 4, 2) := by decide +kernel
theorem d_H_displace_62 : decode b_H_displace 62 = .ok (.aload_n 0, 1) := by decide +kernel
theorem d_H_displace_63 : decode b_H_displace 63 = .ok (.aload_n 0, 1) := by decide +kernel
theorem d_H_displace_64 : decode b_H_displace 64 = .ok (.getfield 7, 3) := by decide +kernel
theorem d_H_displace_67 : decode b_H_displace 67 = .ok (.iload 4, 2) := by decide +kernel
theorem d_H_displace_69 : decode b_H_displace 69 = .ok (.iaload, 1) := by decide +kernel
theorem d_H_displace_70 : decode b_H_displace 70 = .ok (.invokevirtual 45, 3) := by decide +kernel
theorem d_H_displace_73 : decode b_H_displace 73 = .ok (.iadd, 1) := by decide +kernel
theorem d_H_displace_74 : decode b_H_displace 74 = .ok (.istore 4, 2) := by decide +kernel
theorem d_H_displace_76 : decode b_H_displace 76 = .ok (.iinc 5 1, 3) := by decide +kernel
theorem d_H_displace_79 : decode b_H_displace 79 = .ok (.goto (-54), 3) := by decide +kernel
theorem d_H_displace_82 : decode b_H_displace 82 = .ok (.aload_n 0, 1) := by decide +kernel
theorem d_H_displace_83 : decode b_H_displace 83 = .ok (.bipush 9, 2) := by decide +kernel
theorem d_H_displace_85 : decode b_H_displace 85 = .ok (.invokevirtual 100, 3) := by decide +kernel
theorem d_H_displace_88 : decode b_H_displace 88 = .ok (.aload_n 0, 1) := by decide +kernel
theorem d_H_displace_89 : decode b_H_displace 89 = .ok (.iload_n 2, 1) := by decide +kernel
theorem d_H_displace_90 : decode b_H_displace 90 = .ok (.iload_n 3, 1) := by decide +kernel
theorem d_H_displace_91 : decode b_H_displace 91 = .ok (.iadd, 1) := by decide +kernel
theorem d_H_displace_92 : decode b_H_displace 92 = .ok (.invokevirtual 106, 3) := by decide +kernel
theorem d_H_displace_95 : decode b_H_displace 95 = .ok (.return_, 1) := by decide +kernel
theorem d_H_put_0 : decode b_H_put 0 = .ok (.aload_n 0, 1) := by decide +kernel
theorem d_H_put_1 : decode b_H_put 1 = .ok (.getfield 23, 3) := by decide +kernel
theorem d_H_put_4 : decode b_H_put 4 = .ok (.aload_n 0, 1) := by decide +kernel
theorem d_H_put_5 : decode b_H_put 5 = .ok (.getfield 97, 3) := by decide +kernel
theorem d_H_put_8 : decode b_H_put 8 = .ok (.iload_n 1, 1) := by decide +kernel
theorem d_H_put_9 : decode b_H_put 9 = .ok (.iastore, 1) := by decide +kernel
theorem d_H_put_10 : decode b_H_put 10 = .ok (.aload_n 0, 1) := by decide +kernel
theorem d_H_put_11 : decode b_H_put 11 = .ok (.dup, 1) := by decide +kernel
theorem d_H_put_12 : decode b_H_put 12 = .ok (.getfield 97, 3) := by decide +kernel
theorem d_H_put_15 : decode b_H_put 15 = .ok (.iconst 1, 1) := by decide +kernel
theorem d_H_put_16 : decode b_H_put 16 = .ok (.iadd, 1) := by decide +kernel
theorem d_H_put_17 : decode b_H_put 17 = .ok (.putfield 97, 3) := by decide +kernel
theorem d_H_put_20 : decode b_H_put 20 = .ok (.return_, 1) := by decide +kernel
theorem d_H_relocate_0 : decode b_H_relocate 0 = .ok (.aload_n 0, 1) := by decide +kernel
theorem d_H_relocate_1 : decode b_H_relocate 1 = .ok (.getfield 7, 3) := by decide +kernel
theorem d_H_relocate_4 : decode b_H_relocate 4 = .ok (.iload_n 1, 1) := by decide +kernel
theorem d_H_relocate_5 : decode b_H_relocate 5 = .ok (.iaload, 1) := by decide +kernel
theorem d_H_relocate_6 : decode b_H_relocate 6 = .ok (.istore_n 2, 1) := by decide +kernel
theorem d_H_relocate_7 : decode b_H_relocate 7 = .ok (.aload_n 0, 1) := by decide +kernel
theorem d_H_relocate_8 : decode b_H_relocate 8 = .ok (.iload_n 1, 1) := by decide +kernel
theorem d_H_relocate_9 : decode b_H_relocate 9 = .ok (.invokevirtual 71, 3) := by decide +kernel
theorem d_H_relocate_12 : decode b_H_relocate 12 = .ok (.istore_n 3, 1) := by decide +kernel
theorem d_H_relocate_13 : decode b_H_relocate 13 = .ok (.iload_n 2, 1) := by decide +kernel
theorem d_H_relocate_14 : decode b_H_relocate 14 = .ok (.iconst 4, 1) := by decide +kernel
theorem d_H_relocate_15 : decode b_H_relocate 15 = .ok (.if_icmp .ne 17, 3) := by decide +kernel
theorem d_H_relocate_18 : decode b_H_relocate 18 = .ok (.aload_n 0, 1) := by decide +kernel
theorem d_H_relocate_19 : decode b_H_relocate 19 = .ok (.bipush 14, 2) := by decide +kernel
theorem d_H_relocate_21 : decode b_H_relocate 21 = .ok (.invokevirtual 100, 3) := by decide +kernel
theorem d_H_relocate_24 : decode b_H_relocate 24 = .ok (.aload_n 0, 1) := by decide +kernel
theorem d_H_relocate_25 : decode b_H_relocate 25 = .ok (.iload_n 3, 1) := by decide +kernel
theorem d_H_relocate_26 : decode b_H_relocate 26 = .ok (.invokevirtual 106, 3) := by decide +kernel
theorem d_H_relocate_29 : decode b_H_relocate 29 = .ok (.goto 114, 3) := by decide +kernel
theorem d_H_relocate_32 : decode b_H_relocate 32 = .ok (.iload_n 2, 1) := by decide +kernel
theorem d_H_relocate_33 : decode b_H_relocate 33 = .ok (.iconst 5, 1) := by decide +kernel
theorem d_H_relocate_34 : decode b_H_relocate 34 = .ok (.if_icmp .ne 29, 3) := by decide +kernel
theorem d_H_relocate_37 : decode b_H_relocate 37 = .ok (.aload_n 0, 1) := by decide +kernel
theorem d_H_relocate_38 : decode b_H_relocate 38 = .ok (.bipush 11, 2) := by decide +kernel
theorem d_H_relocate_40 : decode b_H_relocate 40 = .ok (.invokevirtual 100, 3) := by decide +kernel
theorem d_H_relocate_43 : decode b_H_relocate 43 = .ok (.aload_n 0, 1) := by decide +kernel
theorem d_H_relocate_44 : decode b_H_relocate 44 = .ok (.aload_n 0, 1) := by decide +kernel
theorem d_H_relocate_45 : decode b_H_relocate 45 = .ok (.getfield 7, 3) := by decide +kernel
theorem d_H_relocate_48 : decode b_H_relocate 48 = .ok (.iload_n 1, 1) := by decide +kernel
theorem d_H_relocate_49 : decode b_H_relocate 49 = .ok (.iconst 1, 1) := by decide +kernel
theorem d_H_relocate_50 : decode b_H_relocate 50 = .ok (.iadd, 1) := by decide +kernel
theorem d_H_relocate_51 : decode b_H_relocate 51 = .ok (.iaload, 1) := by decide +kernel
theorem d_H_relocate_52 : decode b_H_relocate 52 = .ok (.invokevirtual 100, 3) := by decide +kernel
theorem d_H_relocate_55 : decode b_H_relocate 55 = .ok (.aload_n 0, 1) := by decide +kernel
theorem d_H_relocate_56 : decode b_H_relocate 56 = .ok (.iload_n 3, 1) := by decide +kernel
theorem d_H_relocate_57 : decode b_H_relocate 57 = .ok (.invokevirtual 106, 3) := by decide +kernel
theorem d_H_relocate_60 : decode b_H_relocate 60 = .ok (.goto 83, 3) := by decide +kernel
theorem d_H_relocate_63 : decode b_H_relocate 63 = .ok (.iload_n 2, 1) := by decide +kernel
theorem d_H_relocate_64 : decode b_H_relocate 64 = .ok (.bipush 6, 2) := by decide +kernel
theorem d_H_relocate_66 : decode b_H_relocate 66 = .ok (.if_icmp .ne 17, 3) := by decide +kernel
theorem d_H_relocate_69 : decode b_H_relocate 69 = .ok (.aload_n 0, 1) := by decide +kernel
theorem d_H_relocate_70 : decode b_H_relocate 70 = .ok (.bipush 12, 2) := by decide +kernel
theorem d_H_relocate_72 : decode b_H_relocate 72 = .ok (.invokevirtual 100, 3) := by decide +kernel
theorem d_H_relocate_75 : decode b_H_relocate 75 = .ok (.aload_n 0, 1) := by decide +kernel
theorem d_H_relocate_76 : decode b_H_relocate 76 = .ok (.iload_n 3, 1) := by decide +kernel
theorem d_H_relocate_77 : decode b_H_relocate 77 = .ok (.invokevirtual 106, 3) := by decide +kernel
theorem d_H_relocate_80 : decode b_H_relocate 80 = .ok (.goto 63, 3) := by decide +kernel
theorem d_H_relocate_83 : decode b_H_relocate 83 = .ok (.iload_n 2, 1) := by decide +kernel
theorem d_H_relocate_84 : decode b_H_relocate 84 = .ok (.bipush 8, 2) := by decide +kernel
theorem d_H_relocate_86 : decode b_H_relocate 86 = .ok (.if_icmp .ne 31, 3) := by decide +kernel
theorem d_H_relocate_89 : decode b_H_relocate 89 = .ok (.aload_n 0, 1) := by decide +kernel
theorem d_H_relocate_90 : decode b_H_relocate 90 = .ok (.bipush 13, 2) := by decide +kernel
theorem d_H_relocate_92 : decode b_H_relocate 92 = .ok (.invokevirtual 100, 3) := by decide +kernel
theorem d_H_relocate_95 : decode b_H_relocate 95 = .ok (.aload_n 0, 1) := by decide +kernel
theorem d_H_relocate_96 : decode b_H_relocate 96 = .ok (.aload_n 0, 1) := by decide +kernel
theorem d_H_relocate_97 : decode b_H_relocate 97 = .ok (.getfield 7, 3) := by decide +kernel
theorem d_H_relocate_100 : decode b_H_relocate 100 = .ok (.iload_n 1, 1) := by decide +kernel
theorem d_H_relocate_101 : decode b_H_relocate 101 = .ok (.iconst 1, 1) := by decide +kernel
theorem d_H_relocate_102 : decode b_H_relocate 102 = .ok (.iadd, 1) := by decide +kernel
theorem d_H_relocate_103 : decode b_H_relocate 103 = .ok (.iaload, 1) := by decide +kernel
theorem d_H_relocate_104 : decode b_H_relocate 104 = .ok (.invokevirtual 100, 3) := by decide +kernel
theorem d_H_relocate_107 : decode b_H_relocate 107 = .ok (.aload_n 0, 1) := by decide +kernel
theorem d_H_relocate_108 : decode b_H_relocate 108 = .ok (.iload_n 1, 1) := by decide +kernel
theorem d_H_relocate_109 : decode b_H_relocate 109 = .ok (.iconst 2, 1) := by decide +kernel
theorem d_H_relocate_110 : decode b_H_relocate 110 = .ok (.iadd, 1) := by decide +kernel
theorem d_H_relocate_111 : decode b_H_relocate 111 = .ok (.invokevirtual 106, 3) := by decide +kernel
theorem d_H_relocate_114 : decode b_H_relocate 114 = .ok (.goto 29, 3) := by decide +kernel
theorem d_H_relocate_117 : decode b_H_relocate 117 = .ok (.aload_n 0, 1) := by decide +kernel
theorem d_H_relocate_118 : decode b_H_relocate 118 = .ok (.iload_n 2, 1) := by decide +kernel
theorem d_H_relocate_119 : decode b_H_relocate 119 = .ok (.invokevirtual 100, 3) := by decide +kernel
theorem d_H_relocate_122 : decode b_H_relocate 122 = .ok (.iload_n 2, 1) := by decide +kernel
theorem d_H_relocate_123 : decode b_H_relocate 123 = .ok (.ifCond .le 20, 3) := by decide +kernel
theorem d_H_relocate_126 : decode b_H_relocate 126 = .ok (.iload_n 2, 1) := by decide +kernel
theorem d_H_relocate_127 : decode b_H_relocate 127 = .ok (.iconst 4, 1) := by decide +kernel
theorem d_H_relocate_128 : decode b_H_relocate 128 = .ok (.if_icmp .ge 15, 3) := by decide +kernel
theorem d_H_relocate_131 : decode b_H_relocate 131 = .ok (.aload_n 0, 1) := by decide +kernel
theorem d_H_relocate_132 : decode b_H_relocate 132 = .ok (.aload_n 0, 1) := by decide +kernel
theorem d_H_relocate_133 : decode b_H_relocate 133 = .ok (.getfield 7, 3) := by decide +kernel
theorem d_H_relocate_136 : decode b_H_relocate 136 = .ok (.iload_n 1, 1) := by decide +kernel
theorem d_H_relocate_137 : decode b_H_relocate 137 = .ok (.iconst 1, 1) := by decide +kernel
theorem d_H_relocate_138 : decode b_H_relocate 138 = .ok (.iadd, 1) := by decide +kernel
theorem d_H_relocate_139 : decode b_H_relocate 139 = .ok (.iaload, 1) := by decide +kernel
theorem d_H_relocate_140 : decode b_H_relocate 140 = .ok (.invokevirtual 100, 3) := by decide +kernel
theorem d_H_relocate_143 : decode b_H_relocate 143 = .ok (.return_, 1) := by decide +kernel
theorem d_H_putAddress_0 : decode b_H_putAddress 0 = .ok (.aload_n 0, 1) := by decide +kernel
theorem d_H_putAddress_1 : decode b_H_putAddress 1 = .ok (.iload_n 1, 1) := by decide +kernel
theorem d_H_putAddress_2 : decode b_H_putAddress 2 = .ok (.sipush 256, 3) := by decide +kernel
theorem d_H_putAddress_5 : decode b_H_putAddress 5 = .ok (.iadd, 1) := by decide +kernel
theorem d_H_putAddress_6 : decode b_H_putAddress 6 = .ok (.bipush 8, 2) := by decide +kernel
theorem d_H_putAddress_8 : decode b_H_putAddress 8 = .ok (.ishr, 1) := by decide +kernel
theorem d_H_putAddress_9 : decode b_H_putAddress 9 = .ok (.invokevirtual 100, 3) := by decide +kernel
theorem d_H_putAddress_12 : decode b_H_putAddress 12 = .ok (.aload_n 0, 1) := by decide +kernel
theorem d_H_putAddress_13 : decode b_H_putAddress 13 = .ok (.iload_n 1, 1) := by decide +kernel
theorem d_H_putAddress_14 : decode b_H_putAddress 14 = .ok (.sipush 256, 3) := by decide +kernel
theorem d_H_putAddress_17 : decode b_H_putAddress 17 = .ok (.iadd, 1) := by decide +kernel
theorem d_H_putAddress_18 : decode b_H_putAddress 18 = .ok (.sipush 255, 3) := by decide +kernel
theorem d_H_putAddress_21 : decode b_H_putAddress 21 = .ok (.iand, 1) := by decide +kernel
theorem d_H_putAddress_22 : decode b_H_putAddress 22 = .ok (.invokevirtual 100, 3) := by decide +kernel
theorem d_H_putAddress_25 : decode b_H_putAddress 25 = .ok (.return_, 1) := by decide +kernel
theorem d_H_overwrite_0 : decode b_H_overwrite 0 = .ok (.sipush 512, 3) := by decide +kernel
theorem d_H_overwrite_3 : decode b_H_overwrite 3 = .ok (.iload_n 1, 1) := by decide +kernel
theorem d_H_overwrite_4 : decode b_H_overwrite 4 = .ok (.bipush 16, 2) := by decide +kernel
theorem d_H_overwrite_6 : decode b_H_overwrite 6 = .ok (.imul, 1) := by decide +kernel
theorem d_H_overwrite_7 : decode b_H_overwrite 7 = .ok (.iadd, 1) := by decide +kernel
theorem d_H_overwrite_8 : decode b_H_overwrite 8 = .ok (.sipush 256, 3) := by decide +kernel
theorem d_H_overwrite_11 : decode b_H_overwrite 11 = .ok (.iadd, 1) := by decide +kernel
theorem d_H_overwrite_12 : decode b_H_overwrite 12 = .ok (.istore 4, 2) := by decide +kernel
theorem d_H_overwrite_14 : decode b_H_overwrite 14 = .ok (.aload_n 0, 1) := by decide +kernel
theorem d_H_overwrite_15 : decode b_H_overwrite 15 = .ok (.getfield 13, 3) := by decide +kernel
theorem d_H_overwrite_18 : decode b_H_overwrite 18 = .ok (.iload_n 2, 1) := by decide +kernel
theorem d_H_overwrite_19 : decode b_H_overwrite 19 = .ok (.bipush 9, 2) := by decide +kernel
theorem d_H_overwrite_21 : decode b_H_overwrite 21 = .ok (.iastore, 1) := by decide +kernel
theorem d_H_overwrite_22 : decode b_H_overwrite 22 = .ok (.aload_n 0, 1) := by decide +kernel
theorem d_H_overwrite_23 : decode b_H_overwrite 23 = .ok (.getfield 13, 3) := by decide +kernel
theorem d_H_overwrite_26 : decode b_H_overwrite 26 = .ok (.iload_n 2, 1) := by decide +kernel
theorem d_H_overwrite_27 : decode b_H_overwrite 27 = .ok (.iconst 1, 1) := by decide +kernel
theorem d_H_overwrite_28 : decode b_H_overwrite 28 = .ok (.iadd, 1) := by decide +kernel
theorem d_H_overwrite_29 : decode b_H_overwrite 29 = .ok (.iload 4, 2) := by decide +kernel
theorem d_H_overwrite_31 : decode b_H_overwrite 31 = .ok (.bipush 8, 2) := by decide +kernel
theorem d_H_overwrite_33 : decode b_H_overwrite 33 = .ok (.ishr, 1) := by decide +kernel
theorem d_H_overwrite_34 : decode b_H_overwrite 34 = .ok (.iastore, 1) := by decide +kernel
theorem d_H_overwrite_35 : decode b_H_overwrite 35 = .ok (.aload_n 0, 1) := by decide +kernel
theorem d_H_overwrite_36 : decode b_H_overwrite 36 = .ok (.getfield 13, 3) := by decide +kernel
theorem d_H_overwrite_39 : decode b_H_overwrite 39 = .ok (.iload_n 2, 1) := by decide +kernel
theorem d_H_overwrite_40 : decode b_H_overwrite 40 = .ok (.iconst 2, 1) := by decide +kernel
theorem d_H_overwrite_41 : decode b_H_overwrite 41 = .ok (.iadd, 1) := by decide +kernel
theorem d_H_overwrite_42 : decode b_H_overwrite 42 = .ok (.iload 4, 2) := by decide +kernel
theorem d_H_overwrite_44 : decode b_H_overwrite 44 = .ok (.sipush 255, 3) := by decide +kernel
theorem d_H_overwrite_47 : decode b_H_overwrite 47 = .ok (.iand, 1) := by decide +kernel
theorem d_H_overwrite_48 : decode b_H_overwrite 48 = .ok (.iastore, 1) := by decide +kernel
theorem d_H_overwrite_49 : decode b_H_overwrite 49 = .ok (.iconst 3, 1) := by decide +kernel
theorem d_H_overwrite_50 : decode b_H_overwrite 50 = .ok (.istore 5, 2) := by decide +kernel
theorem d_H_overwrite_52 : decode b_H_overwrite 52 = .ok (.iload 5, 2) := by decide +kernel
theorem d_H_overwrite_54 : decode b_H_overwrite 54 = .ok (.iload_n 3, 1) := by decide +kernel
theorem d_H_overwrite_55 : decode b_H_overwrite 55 = .ok (.if_icmp .ge 21, 3) := by decide +kernel
theorem d_H_overwrite_58 : decode b_H_overwrite 58 = .ok (.aload_n 0, 1) := by decide +kernel
theorem d_H_overwrite_59 : decode b_H_overwrite 59 = .ok (.getfield 13, 3) := by decide +kernel
theorem d_H_overwrite_62 : decode b_H_overwrite 62 = .ok (.iload_n 2, 1) := by decide +kernel
theorem d_H_overwrite_63 : decode b_H_overwrite 63 = .ok (.iload 5, 2) := by decide +kernel
theorem d_H_overwrite_65 : decode b_H_overwrite 65 = .ok (.iadd, 1) := by decide +kernel
theorem d_H_overwrite_66 : decode b_H_overwrite 66 = .ok (.sipush 255, 3) := by decide +kernel
theorem d_H_overwrite_69 : decode b_H_overwrite 69 = .ok (.iastore, 1) := by decide +kernel
theorem d_H_overwrite_70 : decode b_H_overwrite 70 = .ok (.iinc 5 1, 3) := by decide +kernel
theorem d_H_overwrite_73 : decode b_H_overwrite 73 = .ok (.goto (-21), 3) := by decide +kernel
theorem d_H_overwrite_76 : decode b_H_overwrite 76 = .ok (.return_, 1) := by decide +kernel
theorem d_H_unhook_0 : decode b_H_unhook 0 = .ok (.iload_n 1, 1) := by decide +kernel
theorem d_H_unhook_1 : decode b_H_unhook 1 = .ok (.ifCond .lt 9, 3) := by decide +kernel
theorem d_H_unhook_4 : decode b_H_unhook 4 = .ok (.iload_n 1, 1) := by decide +kernel
theorem d_H_unhook_5 : decode b_H_unhook 5 = .ok (.bipush 64, 2) := by decide +kernel
theorem d_H_unhook_7 : decode b_H_unhook 7 = .ok (.if_icmp .lt 5, 3) := by decide +kernel
theorem d_H_unhook_10 : decode b_H_unhook 10 = .ok (.iconst (-1), 1) := by decide +kernel
theorem d_H_unhook_11 : decode b_H_unhook 11 = .ok (.ireturn, 1) := by decide +kernel
theorem d_H_unhook_12 : decode b_H_unhook 12 = .ok (.aload_n 0, 1) := by decide +kernel
theorem d_H_unhook_13 : decode b_H_unhook 13 = .ok (.iload_n 1, 1) := by decide +kernel
theorem d_H_unhook_14 : decode b_H_unhook 14 = .ok (.invokevirtual 74, 3) := by decide +kernel
theorem d_H_unhook_17 : decode b_H_unhook 17 = .ok (.istore_n 2, 1) := by decide +kernel
theorem d_H_unhook_18 : decode b_H_unhook 18 = .ok (.iload_n 2, 1) := by decide +kernel
theorem d_H_unhook_19 : decode b_H_unhook 19 = .ok (.ifCond .ge 6, 3) := by decide +kernel
theorem d_H_unhook_22 : decode b_H_unhook 22 = .ok (.bipush (-3), 2) := by decide +kernel
theorem d_H_unhook_24 : decode b_H_unhook 24 = .ok (.ireturn, 1) := by decide +kernel
theorem d_H_unhook_25 : decode b_H_unhook 25 = .ok (.iconst 0, 1) := by decide +kernel
theorem d_H_unhook_26 : decode b_H_unhook 26 = .ok (.istore_n 3, 1) := by decide +kernel
theorem d_H_unhook_27 : decode b_H_unhook 27 = .ok (.iload_n 3, 1) := by decide +kernel
theorem d_H_unhook_28 : decode b_H_unhook 28 = .ok (.aload_n 0, 1) := by decide +kernel
theorem d_H_unhook_29 : decode b_H_unhook 29 = .ok (.getfield 29, 3) := by decide +kernel
theorem d_H_unhook_32 : decode b_H_unhook 32 = .ok (.iload_n 2, 1) := by decide +kernel
theorem d_H_unhook_33 : decode b_H_unhook 33 = .ok (.iaload, 1) := by decide +kernel
theorem d_H_unhook_34 : decode b_H_unhook 34 = .ok (.if_icmp .ge 25, 3) := by decide +kernel
theorem d_H_unhook_37 : decode b_H_unhook 37 = .ok (.aload_n 0, 1) := by decide +kernel
theorem d_H_unhook_38 : decode b_H_unhook 38 = .ok (.getfield 13, 3) := by decide +kernel
theorem d_H_unhook_41 : decode b_H_unhook 41 = .ok (.iload_n 1, 1) := by decide +kernel
theorem d_H_unhook_42 : decode b_H_unhook 42 = .ok (.iload_n 3, 1) := by decide +kernel
theorem d_H_unhook_43 : decode b_H_unhook 43 = .ok (.iadd, 1) := by decide +kernel
theorem d_H_unhook_44 : decode b_H_unhook 44 = .ok (.aload_n 0, 1) := by decide +kernel
theorem d_H_unhook_45 : decode b_H_unhook 45 = .ok (.getfield 7, 3) := by decide +kernel
theorem d_H_unhook_48 : decode b_H_unhook 48 = .ok (.iload_n 1, 1) := by decide +kernel
theorem d_H_unhook_49 : decode b_H_unhook 49 = .ok (.iload_n 3, 1) := by decide +kernel
theorem d_H_unhook_50 : decode b_H_unhook 50 = .ok (.iadd, 1) := by decide +kernel
theorem d_H_unhook_51 : decode b_H_unhook 51 = .ok (.iaload, 1) := by decide +kernel
theorem d_H_unhook_52 : decode b_H_unhook 52 = .ok (.iastore, 1) := by decide +kernel
theorem d_H_unhook_53 : decode b_H_unhook 53 = .ok (.iinc 3 1, 3) := by decide +kernel
theorem d_H_unhook_56 : decode b_H_unhook 56 = .ok (.goto (-29), 3) := by decide +kernel
theorem d_H_unhook_59 : decode b_H_unhook 59 = .ok (.aload_n 0, 1) := by decide +kernel
theorem d_H_unhook_60 : decode b_H_unhook 60 = .ok (.getfield 26, 3) := by decide +kernel
theorem d_H_unhook_63 : decode b_H_unhook 63 = .ok (.iload_n 2, 1) := by decide +kernel
theorem d_H_unhook_64 : decode b_H_unhook 64 = .ok (.iconst (-1), 1) := by decide +kernel
theorem d_H_unhook_65 : decode b_H_unhook 65 = .ok (.iastore, 1) := by decide +kernel
theorem d_H_unhook_66 : decode b_H_unhook 66 = .ok (.aload_n 0, 1) := by decide +kernel
theorem d_H_unhook_67 : decode b_H_unhook 67 = .ok (.getfield 32, 3) := by decide +kernel
theorem d_H_unhook_70 : decode b_H_unhook 70 = .ok (.iload_n 2, 1) := by decide +kernel
theorem d_H_unhook_71 : decode b_H_unhook 71 = .ok (.iaload, 1) := by decide +kernel
theorem d_H_unhook_72 : decode b_H_unhook 72 = .ok (.ireturn, 1) := by decide +kernel
theorem d_H_calls_0 : decode b_H_calls 0 = .ok (.iload_n 1, 1) := by decide +kernel
theorem d_H_calls_1 : decode b_H_calls 1 = .ok (.ifCond .lt 9, 3) := by decide +kernel
theorem d_H_calls_4 : decode b_H_calls 4 = .ok (.iload_n 1, 1) := by decide +kernel
theorem d_H_calls_5 : decode b_H_calls 5 = .ok (.bipush 64, 2) := by decide +kernel
theorem d_H_calls_7 : decode b_H_calls 7 = .ok (.if_icmp .lt 5, 3) := by decide +kernel
theorem d_H_calls_10 : decode b_H_calls 10 = .ok (.iconst (-1), 1) := by decide +kernel
theorem d_H_calls_11 : decode b_H_calls 11 = .ok (.ireturn, 1) := by decide +kernel
theorem d_H_calls_12 : decode b_H_calls 12 = .ok (.aload_n 0, 1) := by decide +kernel
theorem d_H_calls_13 : decode b_H_calls 13 = .ok (.iload_n 1, 1) := by decide +kernel
theorem d_H_calls_14 : decode b_H_calls 14 = .ok (.invokevirtual 74, 3) := by decide +kernel
theorem d_H_calls_17 : decode b_H_calls 17 = .ok (.istore_n 2, 1) := by decide +kernel
theorem d_H_calls_18 : decode b_H_calls 18 = .ok (.iload_n 2, 1) := by decide +kernel
theorem d_H_calls_19 : decode b_H_calls 19 = .ok (.ifCond .ge 8, 3) := by decide +kernel
theorem d_H_calls_22 : decode b_H_calls 22 = .ok (.bipush (-3), 2) := by decide +kernel
theorem d_H_calls_24 : decode b_H_calls 24 = .ok (.goto 9, 3) := by decide +kernel
theorem d_H_calls_27 : decode b_H_calls 27 = .ok (.aload_n 0, 1) := by decide +kernel
theorem d_H_calls_28 : decode b_H_calls 28 = .ok (.getfield 32, 3) := by decide +kernel
theorem d_H_calls_31 : decode b_H_calls 31 = .ok (.iload_n 2, 1) := by decide +kernel
theorem d_H_calls_32 : decode b_H_calls 32 = .ok (.iaload, 1) := by decide +kernel
theorem d_H_calls_33 : decode b_H_calls 33 = .ok (.ireturn, 1) := by decide +kernel
theorem d_H_run_0 : decode b_H_run 0 = .ok (.iload_n 1, 1) := by decide +kernel
theorem d_H_run_1 : decode b_H_run 1 = .ok (.ifCond .lt 9, 3) := by decide +kernel
theorem d_H_run_4 : decode b_H_run 4 = .ok (.iload_n 1, 1) := by decide +kernel
theorem d_H_run_5 : decode b_H_run 5 = .ok (.bipush 64, 2) := by decide +kernel
theorem d_H_run_7 : decode b_H_run 7 = .ok (.if_icmp .lt 5, 3) := by decide +kernel
theorem d_H_run_10 : decode b_H_run 10 = .ok (.iconst (-1), 1) := by decide +kernel
theorem d_H_run_11 : decode b_H_run 11 = .ok (.ireturn, 1) := by decide +kernel
theorem d_H_run_12 : decode b_H_run 12 = .ok (.aload_n 0, 1) := by decide +kernel
theorem d_H_run_13 : decode b_H_run 13 = .ok (.aload_n 0, 1) := by decide +kernel
theorem d_H_run_14 : decode b_H_run 14 = .ok (.iload_n 1, 1) := by decide +kernel
theorem d_H_run_15 : decode b_H_run 15 = .ok (.invokevirtual 112, 3) := by decide +kernel
theorem d_H_run_18 : decode b_H_run 18 = .ok (.putfield 115, 3) := by decide +kernel
theorem d_H_run_21 : decode b_H_run 21 = .ok (.aload_n 0, 1) := by decide +kernel
theorem d_H_run_22 : decode b_H_run 22 = .ok (.iconst 0, 1) := by decide +kernel
theorem d_H_run_23 : decode b_H_run 23 = .ok (.putfield 118, 3) := by decide +kernel
theorem d_H_run_26 : decode b_H_run 26 = .ok (.aload_n 0, 1) := by decide +kernel
theorem d_H_run_27 : decode b_H_run 27 = .ok (.iconst 0, 1) := by decide +kernel
theorem d_H_run_28 : decode b_H_run 28 = .ok (.putfield 121, 3) := by decide +kernel
theorem d_H_run_31 : decode b_H_run 31 = .ok (.aload_n 0, 1) := by decide +kernel
theorem d_H_run_32 : decode b_H_run 32 = .ok (.iconst 0, 1) := by decide +kernel
theorem d_H_run_33 : decode b_H_run 33 = .ok (.putfield 124, 3) := by decide +kernel
theorem d_H_run_36 : decode b_H_run 36 = .ok (.iconst 0, 1) := by decide +kernel
theorem d_H_run_37 : decode b_H_run 37 = .ok (.istore_n 2, 1) := by decide +kernel
theorem d_H_run_38 : decode b_H_run 38 = .ok (.iload_n 2, 1) := by decide +kernel
theorem d_H_run_39 : decode b_H_run 39 = .ok (.sipush 1000, 3) := by decide +kernel
theorem d_H_run_42 : decode b_H_run 42 = .ok (.if_icmp .ge 67, 3) := by decide +kernel
theorem d_H_run_45 : decode b_H_run 45 = .ok (.aload_n 0, 1) := by decide +kernel
theorem d_H_run_46 : decode b_H_run 46 = .ok (.getfield 124, 3) := by decide +kernel
theorem d_H_run_49 : decode b_H_run 49 = .ok (.ifCond .ne 60, 3) := by decide +kernel
theorem d_H_run_52 : decode b_H_run 52 = .ok (.aload_n 0, 1) := by decide +kernel
theorem d_H_run_53 : decode b_H_run 53 = .ok (.getfield 121, 3) := by decide +kernel
theorem d_H_run_56 : decode b_H_run 56 = .ok (.sipush 200, 3) := by decide +kernel
theorem d_H_run_59 : decode b_H_run 59 = .ok (.if_icmp .ne 11, 3) := by decide +kernel
theorem d_H_run_62 : decode b_H_run 62 = .ok (.aload_n 0, 1) := by decide +kernel
theorem d_H_run_63 : decode b_H_run 63 = .ok (.iconst 4, 1) := by decide +kernel
theorem d_H_run_64 : decode b_H_run 64 = .ok (.putfield 124, 3) := by decide +kernel
theorem d_H_run_67 : decode b_H_run 67 = .ok (.goto 36, 3) := by decide +kernel
theorem d_H_run_70 : decode b_H_run 70 = .ok (.aload_n 0, 1) := by decide +kernel
theorem d_H_run_71 : decode b_H_run 71 = .ok (.getfield 115, 3) := by decide +kernel
theorem d_H_run_74 : decode b_H_run 74 = .ok (.sipush 512, 3) := by decide +kernel
theorem d_H_run_77 : decode b_H_run 77 = .ok (.if_icmp .ge 22, 3) := by decide +kernel
theorem d_H_run_80 : decode b_H_run 80 = .ok (.aload_n 0, 1) := by decide +kernel
theorem d_H_run_81 : decode b_H_run 81 = .ok (.aload_n 0, 1) := by decide +kernel
theorem d_H_run_82 : decode b_H_run 82 = .ok (.getfield 115, 3) := by decide +kernel
theorem d_H_run_85 : decode b_H_run 85 = .ok (.invokevirtual 77, 3) := by decide +kernel
theorem d_H_run_88 : decode b_H_run 88 = .ok (.ifCond .ne 11, 3) := by decide +kernel
theorem d_H_run_91 : decode b_H_run 91 = .ok (.aload_n 0, 1) := by decide +kernel
theorem d_H_run_92 : decode b_H_run 92 = .ok (.iconst 2, 1) := by decide +kernel
theorem d_H_run_93 : decode b_H_run 93 = .ok (.putfield 124, 3) := by decide +kernel
theorem d_H_run_96 : decode b_H_run 96 = .ok (.goto 7, 3) := by decide +kernel
theorem d_H_run_99 : decode b_H_run 99 = .ok (.aload_n 0, 1) := by decide +kernel
theorem d_H_run_100 : decode b_H_run 100 = .ok (.invokevirtual 127, 3) := by decide +kernel
theorem d_H_run_103 : decode b_H_run 103 = .ok (.iinc 2 1, 3) := by decide +kernel
theorem d_H_run_106 : decode b_H_run 106 = .ok (.goto (-68), 3) := by decide +kernel
theorem d_H_run_109 : decode b_H_run 109 = .ok (.aload_n 0, 1) := by decide +kernel
theorem d_H_run_110 : decode b_H_run 110 = .ok (.getfield 124, 3) := by decide +kernel
theorem d_H_run_113 : decode b_H_run 113 = .ok (.ireturn, 1) := by decide +kernel
theorem d_H_entry_0 : decode b_H_entry 0 = .ok (.iload_n 1, 1) := by decide +kernel
theorem d_H_entry_1 : decode b_H_entry 1 = .ok (.istore_n 2, 1) := by decide +kernel
theorem d_H_entry_2 : decode b_H_entry 2 = .ok (.iconst 0, 1) := by decide +kernel
theorem d_H_entry_3 : decode b_H_entry 3 = .ok (.istore_n 3, 1) := by decide +kernel
theorem d_H_entry_4 : decode b_H_entry 4 = .ok (.iload_n 3, 1) := by decide +kernel
theorem d_H_entry_5 : decode b_H_entry 5 = .ok (.iconst 4, 1) := by decide +kernel
theorem d_H_entry_6 : decode b_H_entry 6 = .ok (.if_icmp .ge 72, 3) := by decide +kernel
theorem d_H_entry_9 : decode b_H_entry 9 = .ok (.aload_n 0, 1) := by decide +kernel
theorem d_H_entry_10 : decode b_H_entry 10 = .ok (.getfield 26, 3) := by decide +kernel
theorem d_H_entry_13 : decode b_H_entry 13 = .ok (.iload_n 3, 1) := by decide +kernel
theorem d_H_entry_14 : decode b_H_entry 14 = .ok (.iaload, 1) := by decide +kernel
theorem d_H_entry_15 : decode b_H_entry 15 = .ok (.ifCond .lt 34, 3) := by decide +kernel
theorem d_H_entry_18 : decode b_H_entry 18 = .ok (.iload_n 1, 1) := by decide +kernel
theorem d_H_entry_19 : decode b_H_entry 19 = .ok (.aload_n 0, 1) := by decide +kernel
theorem d_H_entry_20 : decode b_H_entry 20 = .ok (.getfield 26, 3) := by decide +kernel
theorem d_H_entry_23 : decode b_H_entry 23 = .ok (.iload_n 3, 1) := by decide +kernel
theorem d_H_entry_24 : decode b_H_entry 24 = .ok (.iaload, 1) := by decide +kernel
theorem d_H_entry_25 : decode b_H_entry 25 = .ok (.if_icmp .le 24, 3) := by decide +kernel
theorem d_H_entry_28 : decode b_H_entry 28 = .ok (.iload_n 1, 1) := by decide +kernel
theorem d_H_entry_29 : decode b_H_entry 29 = .ok (.aload_n 0, 1) := by decide +kernel
theorem d_H_entry_30 : decode b_H_entry 30 = .ok (.getfield 26, 3) := by decide +kernel
theorem d_H_entry_33 : decode b_H_entry 33 = .ok (.iload_n 3, 1) := by decide +kernel
theorem d_H_entry_34 : decode b_H_entry 34 = .ok (.iaload, 1) := by decide +kernel
theorem d_H_entry_35 : decode b_H_entry 35 = .ok (.aload_n 0, 1) := by decide +kernel
theorem d_H_entry_36 : decode b_H_entry 36 = .ok (.getfield 29, 3) := by decide +kernel
theorem d_H_entry_39 : decode b_H_entry 39 = .ok (.iload_n 3, 1) := by decide +kernel
theorem d_H_entry_40 : decode b_H_entry 40 = .ok (.iaload, 1) := by decide +kernel
theorem d_H_entry_41 : decode b_H_entry 41 = .ok (.iadd, 1) := by decide +kernel
theorem d_H_entry_42 : decode b_H_entry 42 = .ok (.if_icmp .ge 7, 3) := by decide +kernel
theorem d_H_entry_45 : decode b_H_entry 45 = .ok (.iconst 1, 1) := by decide +kernel
theorem d_H_entry_46 : decode b_H_entry 46 = .ok (.goto 4, 3) := by decide +kernel
theorem d_H_entry_49 : decode b_H_entry 49 = .ok (.iconst 0, 1) := by decide +kernel
theorem d_H_entry_50 : decode b_H_entry 50 = .ok (.istore 4, 2) := by decide +kernel
theorem d_H_entry_52 : decode b_H_entry 52 = .ok (.iload 4, 2) := by decide +kernel
theorem d_H_entry_54 : decode b_H_entry 54 = .ok (.ifCond .eq 18, 3) := by decide +kernel
theorem d_H_entry_57 : decode b_H_entry 57 = .ok (.aload_n 0, 1) := by decide +kernel
theorem d_H_entry_58 : decode b_H_entry 58 = .ok (.iload_n 1, 1) := by decide +kernel
theorem d_H_entry_59 : decode b_H_entry 59 = .ok (.invokevirtual 77, 3) := by decide +kernel
theorem d_H_entry_62 : decode b_H_entry 62 = .ok (.ifCond .eq 10, 3) := by decide +kernel
theorem d_H_entry_65 : decode b_H_entry 65 = .ok (.aload_n 0, 1) := by decide +kernel
theorem d_H_entry_66 : decode b_H_entry 66 = .ok (.getfield 20, 3) := by decide +kernel
theorem d_H_entry_69 : decode b_H_entry 69 = .ok (.iload_n 1, 1) := by decide +kernel
theorem d_H_entry_70 : decode b_H_entry 70 = .ok (.iaload, 1) := by decide +kernel
theorem d_H_entry_71 : decode b_H_entry 71 = .ok (.istore_n 2, 1) := by decide +kernel
theorem d_H_entry_72 : decode b_H_entry 72 = .ok (.iinc 3 1, 3) := by decide +kernel
theorem d_H_entry_75 : decode b_H_entry 75 = .ok (.goto (-71), 3) := by decide +kernel
theorem d_H_entry_78 : decode b_H_entry 78 = .ok (.iload_n 2, 1) := by decide +kernel
theorem d_H_entry_79 : decode b_H_entry 79 = .ok (.ireturn, 1) := by decide +kernel
theorem d_H_execute_0 : decode b_H_execute 0 = .ok (.aload_n 0, 1) := by decide +kernel
theorem d_H_execute_1 : decode b_H_execute 1 = .ok (.aload_n 0, 1) := by decide +kernel
theorem d_H_execute_2 : decode b_H_execute 2 = .ok (.getfield 115, 3) := by decide +kernel
theorem d_H_execute_5 : decode b_H_execute 5 = .ok (.invokevirtual 109, 3) := by decide +kernel
theorem d_H_execute_8 : decode b_H_execute 8 = .ok (.istore_n 1, 1) := by decide +kernel
theorem d_H_execute_9 : decode b_H_execute 9 = .ok (.iload_n 1, 1) := by decide +kernel
theorem d_H_execute_10 : decode b_H_execute 10 = .ok (.bipush 9, 2) := by decide +kernel
theorem d_H_execute_12 : decode b_H_execute 12 = .ok (.if_icmp .ne 20, 3) := by decide +kernel
theorem d_H_execute_15 : decode b_H_execute 15 = .ok (.aload_n 0, 1) := by decide +kernel
theorem d_H_execute_16 : decode b_H_execute 16 = .ok (.aload_n 0, 1) := by decide +kernel
theorem d_H_execute_17 : decode b_H_execute 17 = .ok (.aload_n 0, 1) := by decide +kernel
theorem d_H_execute_18 : decode b_H_execute 18 = .ok (.getfield 115, 3) := by decide +kernel
theorem d_H_execute_21 : decode b_H_execute 21 = .ok (.iconst 1, 1) := by decide +kernel
theorem d_H_execute_22 : decode b_H_execute 22 = .ok (.iadd, 1) := by decide +kernel
theorem d_H_execute_23 : decode b_H_execute 23 = .ok (.invokevirtual 130, 3) := by decide +kernel
theorem d_H_execute_26 : decode b_H_execute 26 = .ok (.putfield 115, 3) := by decide +kernel
theorem d_H_execute_29 : decode b_H_execute 29 = .ok (.goto 78, 3) := by decide +kernel
theorem d_H_execute_32 : decode b_H_execute 32 = .ok (.iload_n 1, 1) := by decide +kernel
theorem d_H_execute_33 : decode b_H_execute 33 = .ok (.bipush 10, 2) := by decide +kernel
theorem d_H_execute_35 : decode b_H_execute 35 = .ok (.if_icmp .ne 43, 3) := by decide +kernel
theorem d_H_execute_38 : decode b_H_execute 38 = .ok (.aload_n 0, 1) := by decide +kernel
theorem d_H_execute_39 : decode b_H_execute 39 = .ok (.aload_n 0, 1) := by decide +kernel
theorem d_H_execute_40 : decode b_H_execute 40 = .ok (.getfield 115, 3) := by decide +kernel
theorem d_H_execute_43 : decode b_H_execute 43 = .ok (.iconst 1, 1) := by decide +kernel
theorem d_H_execute_44 : decode b_H_execute 44 = .ok (.iadd, 1) := by decide +kernel
theorem d_H_execute_45 : decode b_H_execute 45 = .ok (.invokevirtual 109, 3) := by decide +kernel
theorem d_H_execute_48 : decode b_H_execute 48 = .ok (.iconst 3, 1) := by decide +kernel
theorem d_H_execute_49 : decode b_H_execute 49 = .ok (.iand, 1) := by decide +kernel
theorem d_H_execute_50 : decode b_H_execute 50 = .ok (.istore_n 2, 1) := by decide +kernel
theorem d_H_execute_51 : decode b_H_execute 51 = .ok (.aload_n 0, 1) := by decide +kernel
theorem d_H_execute_52 : decode b_H_execute 52 = .ok (.getfield 32, 3) := by decide +kernel
theorem d_H_execute_55 : decode b_H_execute 55 = .ok (.iload_n 2, 1) := by decide +kernel
theorem d_H_execute_56 : decode b_H_execute 56 = .ok (.aload_n 0, 1) := by decide +kernel
theorem d_H_execute_57 : decode b_H_execute 57 = .ok (.getfield 32, 3) := by decide +kernel
theorem d_H_execute_60 : decode b_H_execute 60 = .ok (.iload_n 2, 1) := by decide +kernel
theorem d_H_execute_61 : decode b_H_execute 61 = .ok (.iaload, 1) := by decide +kernel
theorem d_H_execute_62 : decode b_H_execute 62 = .ok (.iconst 1, 1) := by decide +kernel
theorem d_H_execute_63 : decode b_H_execute 63 = .ok (.iadd, 1) := by decide +kernel
theorem d_H_execute_64 : decode b_H_execute 64 = .ok (.iastore, 1) := by decide +kernel
theorem d_H_execute_65 : decode b_H_execute 65 = .ok (.aload_n 0, 1) := by decide +kernel
theorem d_H_execute_66 : decode b_H_execute 66 = .ok (.aload_n 0, 1) := by decide +kernel
theorem d_H_execute_67 : decode b_H_execute 67 = .ok (.getfield 115, 3) := by decide +kernel
theorem d_H_execute_70 : decode b_H_execute 70 = .ok (.iconst 2, 1) := by decide +kernel
theorem d_H_execute_71 : decode b_H_execute 71 = .ok (.iadd, 1) := by decide +kernel
theorem d_H_execute_72 : decode b_H_execute 72 = .ok (.putfield 115, 3) := by decide +kernel
theorem d_H_execute_75 : decode b_H_execute 75 = .ok (.goto 32, 3) := by decide +kernel
theorem d_H_execute_78 : decode b_H_execute 78 = .ok (.aload_n 0, 1) := by decide +kernel
theorem d_H_execute_79 : decode b_H_execute 79 = .ok (.dup, 1) := by decide +kernel
theorem d_H_execute_80 : decode b_H_execute 80 = .ok (.getfield 121, 3) := by decide +kernel
theorem d_H_execute_83 : decode b_H_execute 83 = .ok (.iconst 1, 1) := by decide +kernel
theorem d_H_execute_84 : decode b_H_execute 84 = .ok (.iadd, 1) := by decide +kernel
theorem d_H_execute_85 : decode b_H_execute 85 = .ok (.putfield 121, 3) := by decide +kernel
theorem d_H_execute_88 : decode b_H_execute 88 = .ok (.iload_n 1, 1) := by decide +kernel
theorem d_H_execute_89 : decode b_H_execute 89 = .ok (.bipush 11, 2) := by decide +kernel
theorem d_H_execute_91 : decode b_H_execute 91 = .ok (.if_icmp .lt 11, 3) := by decide +kernel
theorem d_H_execute_94 : decode b_H_execute 94 = .ok (.aload_n 0, 1) := by decide +kernel
theorem d_H_execute_95 : decode b_H_execute 95 = .ok (.iload_n 1, 1) := by decide +kernel
theorem d_H_execute_96 : decode b_H_execute 96 = .ok (.invokevirtual 133, 3) := by decide +kernel
theorem d_H_execute_99 : decode b_H_execute 99 = .ok (.goto 8, 3) := by decide +kernel
theorem d_H_execute_102 : decode b_H_execute 102 = .ok (.aload_n 0, 1) := by decide +kernel
theorem d_H_execute_103 : decode b_H_execute 103 = .ok (.iload_n 1, 1) := by decide +kernel
theorem d_H_execute_104 : decode b_H_execute 104 = .ok (.invokevirtual 136, 3) := by decide +kernel
theorem d_H_execute_107 : decode b_H_execute 107 = .ok (.return_, 1) := by decide +kernel
theorem d_H_fetch_0 : decode b_H_fetch 0 = .ok (.iload_n 1, 1) := by decide +kernel
theorem d_H_fetch_1 : decode b_H_fetch 1 = .ok (.sipush 512, 3) := by decide +kernel
theorem d_H_fetch_4 : decode b_H_fetch 4 = .ok (.if_icmp .lt 28, 3) := by decide +kernel
theorem d_H_fetch_7 : decode b_H_fetch 7 = .ok (.iload_n 1, 1) := by decide +kernel
theorem d_H_fetch_8 : decode b_H_fetch 8 = .ok (.sipush 512, 3) := by decide +kernel
theorem d_H_fetch_11 : decode b_H_fetch 11 = .ok (.isub, 1) := by decide +kernel
theorem d_H_fetch_12 : decode b_H_fetch 12 = .ok (.istore_n 2, 1) := by decide +kernel
theorem d_H_fetch_13 : decode b_H_fetch 13 = .ok (.iload_n 2, 1) := by decide +kernel
theorem d_H_fetch_14 : decode b_H_fetch 14 = .ok (.bipush 64, 2) := by decide +kernel
theorem d_H_fetch_16 : decode b_H_fetch 16 = .ok (.if_icmp .ge 12, 3) := by decide +kernel
theorem d_H_fetch_19 : decode b_H_fetch 19 = .ok (.aload_n 0, 1) := by decide +kernel
theorem d_H_fetch_20 : decode b_H_fetch 20 = .ok (.getfield 23, 3) := by decide +kernel
theorem d_H_fetch_23 : decode b_H_fetch 23 = .ok (.iload_n 2, 1) := by decide +kernel
theorem d_H_fetch_24 : decode b_H_fetch 24 = .ok (.iaload, 1) := by decide +kernel
theorem d_H_fetch_25 : decode b_H_fetch 25 = .ok (.goto 6, 3) := by decide +kernel
theorem d_H_fetch_28 : decode b_H_fetch 28 = .ok (.sipush 255, 3) := by decide +kernel
theorem d_H_fetch_31 : decode b_H_fetch 31 = .ok (.ireturn, 1) := by decide +kernel
theorem d_H_fetch_32 : decode b_H_fetch 32 = .ok (.iload_n 1, 1) := by decide +kernel
theorem d_H_fetch_33 : decode b_H_fetch 33 = .ok (.ifCond .lt 18, 3) := by decide +kernel
theorem d_H_fetch_36 : decode b_H_fetch 36 = .ok (.iload_n 1, 1) := by decide +kernel
theorem d_H_fetch_37 : decode b_H_fetch 37 = .ok (.bipush 64, 2) := by decide +kernel
theorem d_H_fetch_39 : decode b_H_fetch 39 = .ok (.if_icmp .ge 12, 3) := by decide +kernel
theorem d_H_fetch_42 : decode b_H_fetch 42 = .ok (.aload_n 0, 1) := by decide +kernel
theorem d_H_fetch_43 : decode b_H_fetch 43 = .ok (.getfield 13, 3) := by decide +kernel
theorem d_H_fetch_46 : decode b_H_fetch 46 = .ok (.iload_n 1, 1) := by decide +kernel
theorem d_H_fetch_47 : decode b_H_fetch 47 = .ok (.iaload, 1) := by decide +kernel
theorem d_H_fetch_48 : decode b_H_fetch 48 = .ok (.goto 6, 3) := by decide +kernel
theorem d_H_fetch_51 : decode b_H_fetch 51 = .ok (.sipush 255, 3) := by decide +kernel
theorem d_H_fetch_54 : decode b_H_fetch 54 = .ok (.ireturn, 1) := by decide +kernel
theorem d_H_fetchAddress_0 : decode b_H_fetchAddress 0 = .ok (.aload_n 0, 1) := by decide +kernel
theorem d_H_fetchAddress_1 : decode b_H_fetchAddress 1 = .ok (.iload_n 1, 1) := by decide +kernel
theorem d_H_fetchAddress_2 : decode b_H_fetchAddress 2 = .ok (.invokevirtual 109, 3) := by decide +kernel
theorem d_H_fetchAddress_5 : decode b_H_fetchAddress 5 = .ok (.istore_n 2, 1) := by decide +kernel
theorem d_H_fetchAddress_6 : decode b_H_fetchAddress 6 = .ok (.aload_n 0, 1) := by decide +kernel
theorem d_H_fetchAddress_7 : decode b_H_fetchAddress 7 = .ok (.iload_n 1, 1) := by decide +kernel
theorem d_H_fetchAddress_8 : decode b_H_fetchAddress 8 = .ok (.iconst 1, 1) := by decide +kernel
theorem d_H_fetchAddress_9 : decode b_H_fetchAddress 9 = .ok (.iadd, 1) := by decide +kernel
theorem d_H_fetchAddress_10 : decode b_H_fetchAddress 10 = .ok (.invokevirtual 109, 3) := by decide +kernel
theorem d_H_fetchAddress_13 : decode b_H_fetchAddress 13 = .ok (.istore_n 3, 1) := by decide +kernel
theorem d_H_fetchAddress_14 : decode b_H_fetchAddress 14 = .ok (.iload_n 2, 1) := by decide +kernel
theorem d_H_fetchAddress_15 : decode b_H_fetchAddress 15 = .ok (.sipush 256, 3) := by decide +kernel
theorem d_H_fetchAddress_18 : decode b_H_fetchAddress 18 = .ok (.imul, 1) := by decide +kernel
theorem d_H_fetchAddress_19 : decode b_H_fetchAddress 19 = .ok (.iload_n 3, 1) := by decide +kernel
theorem d_H_fetchAddress_20 : decode b_H_fetchAddress 20 = .ok (.iadd, 1) := by decide +kernel
theorem d_H_fetchAddress_21 : decode b_H_fetchAddress 21 = .ok (.sipush 256, 3) := by decide +kernel
theorem d_H_fetchAddress_24 : decode b_H_fetchAddress 24 = .ok (.isub, 1) := by decide +kernel
theorem d_H_fetchAddress_25 : decode b_H_fetchAddress 25 = .ok (.ireturn, 1) := by decide +kernel
theorem d_H_executeFar_0 : decode b_H_executeFar 0 = .ok (.iload_n 1, 1) := by decide +kernel
theorem d_H_executeFar_1 : decode b_H_executeFar 1 = .ok (.bipush 14, 2) := by decide +kernel
theorem d_H_executeFar_3 : decode b_H_executeFar 3 = .ok (.if_icmp .ne 20, 3) := by decide +kernel
theorem d_H_executeFar_6 : decode b_H_executeFar 6 = .ok (.aload_n 0, 1) := by decide +kernel
theorem d_H_executeFar_7 : decode b_H_executeFar 7 = .ok (.aload_n 0, 1) := by decide +kernel
theorem d_H_executeFar_8 : decode b_H_executeFar 8 = .ok (.aload_n 0, 1) := by decide +kernel
theorem d_H_executeFar_9 : decode b_H_executeFar 9 = .ok (.getfield 115, 3) := by decide +kernel
theorem d_H_executeFar_12 : decode b_H_executeFar 12 = .ok (.iconst 1, 1) := by decide +kernel
theorem d_H_executeFar_13 : decode b_H_executeFar 13 = .ok (.iadd, 1) := by decide +kernel
theorem d_H_executeFar_14 : decode b_H_executeFar 14 = .ok (.invokevirtual 130, 3) := by decide +kernel
theorem d_H_executeFar_17 : decode b_H_executeFar 17 = .ok (.putfield 115, 3) := by decide +kernel
theorem d_H_executeFar_20 : decode b_H_executeFar 20 = .ok (.goto 98, 3) := by decide +kernel
theorem d_H_executeFar_23 : decode b_H_executeFar 23 = .ok (.iload_n 1, 1) := by decide +kernel
theorem d_H_executeFar_24 : decode b_H_executeFar 24 = .ok (.bipush 12, 2) := by decide +kernel
theorem d_H_executeFar_26 : decode b_H_executeFar 26 = .ok (.if_icmp .ne 28, 3) := by decide +kernel
theorem d_H_executeFar_29 : decode b_H_executeFar 29 = .ok (.aload_n 0, 1) := by decide +kernel
theorem d_H_executeFar_30 : decode b_H_executeFar 30 = .ok (.aload_n 0, 1) := by decide +kernel
theorem d_H_executeFar_31 : decode b_H_executeFar 31 = .ok (.getfield 115, 3) := by decide +kernel
theorem d_H_executeFar_34 : decode b_H_executeFar 34 = .ok (.iconst 1, 1) := by decide +kernel
theorem d_H_executeFar_35 : decode b_H_executeFar 35 = .ok (.iadd, 1) := by decide +kernel
theorem d_H_executeFar_36 : decode b_H_executeFar 36 = .ok (.invokevirtual 130, 3) := by decide +kernel
theorem d_H_executeFar_39 : decode b_H_executeFar 39 = .ok (.istore_n 2, 1) := by decide +kernel
theorem d_H_executeFar_40 : decode b_H_executeFar 40 = .ok (.aload_n 0, 1) := by decide +kernel
theorem d_H_executeFar_41 : decode b_H_executeFar 41 = .ok (.aload_n 0, 1) := by decide +kernel
theorem d_H_executeFar_42 : decode b_H_executeFar 42 = .ok (.getfield 115, 3) := by decide +kernel
theorem d_H_executeFar_45 : decode b_H_executeFar 45 = .ok (.iconst 3, 1) := by decide +kernel
theorem d_H_executeFar_46 : decode b_H_executeFar 46 = .ok (.iadd, 1) := by decide +kernel
theorem d_H_executeFar_47 : decode b_H_executeFar 47 = .ok (.iload_n 2, 1) := by decide +kernel
theorem d_H_executeFar_48 : decode b_H_executeFar 48 = .ok (.invokevirtual 139, 3) := by decide +kernel
theorem d_H_executeFar_51 : decode b_H_executeFar 51 = .ok (.goto 67, 3) := by decide +kernel
theorem d_H_executeFar_54 : decode b_H_executeFar 54 = .ok (.aload_n 0, 1) := by decide +kernel
theorem d_H_executeFar_55 : decode b_H_executeFar 55 = .ok (.aload_n 0, 1) := by decide +kernel
theorem d_H_executeFar_56 : decode b_H_executeFar 56 = .ok (.getfield 115, 3) := by decide +kernel
theorem d_H_executeFar_59 : decode b_H_executeFar 59 = .ok (.iconst 1, 1) := by decide +kernel
theorem d_H_executeFar_60 : decode b_H_executeFar 60 = .ok (.iadd, 1) := by decide +kernel
theorem d_H_executeFar_61 : decode b_H_executeFar 61 = .ok (.invokevirtual 109, 3) := by decide +kernel
theorem d_H_executeFar_64 : decode b_H_executeFar 64 = .ok (.iconst 3, 1) := by decide +kernel
theorem d_H_executeFar_65 : decode b_H_executeFar 65 = .ok (.iand, 1) := by decide +kernel
theorem d_H_executeFar_66 : decode b_H_executeFar 66 = .ok (.istore_n 2, 1) := by decide +kernel
theorem d_H_executeFar_67 : decode b_H_executeFar 67 = .ok (.aload_n 0, 1) := by decide +kernel
theorem d_H_executeFar_68 : decode b_H_executeFar 68 = .ok (.aload_n 0, 1) := by decide +kernel
theorem d_H_executeFar_69 : decode b_H_executeFar 69 = .ok (.getfield 115, 3) := by decide +kernel
theorem d_H_executeFar_72 : decode b_H_executeFar 72 = .ok (.iconst 2, 1) := by decide +kernel
theorem d_H_executeFar_73 : decode b_H_executeFar 73 = .ok (.iadd, 1) := by decide +kernel
theorem d_H_executeFar_74 : decode b_H_executeFar 74 = .ok (.invokevirtual 130, 3) := by decide +kernel
theorem d_H_executeFar_77 : decode b_H_executeFar 77 = .ok (.istore_n 3, 1) := by decide +kernel
theorem d_H_executeFar_78 : decode b_H_executeFar 78 = .ok (.aload_n 0, 1) := by decide +kernel
theorem d_H_executeFar_79 : decode b_H_executeFar 79 = .ok (.aload_n 0, 1) := by decide +kernel
theorem d_H_executeFar_80 : decode b_H_executeFar 80 = .ok (.getfield 115, 3) := by decide +kernel
theorem d_H_executeFar_83 : decode b_H_executeFar 83 = .ok (.iconst 4, 1) := by decide +kernel
theorem d_H_executeFar_84 : decode b_H_executeFar 84 = .ok (.iadd, 1) := by decide +kernel
theorem d_H_executeFar_85 : decode b_H_executeFar 85 = .ok (.putfield 115, 3) := by decide +kernel
theorem d_H_executeFar_88 : decode b_H_executeFar 88 = .ok (.iload_n 1, 1) := by decide +kernel
theorem d_H_executeFar_89 : decode b_H_executeFar 89 = .ok (.bipush 13, 2) := by decide +kernel
theorem d_H_executeFar_91 : decode b_H_executeFar 91 = .ok (.if_icmp .ne 13, 3) := by decide +kernel
theorem d_H_executeFar_94 : decode b_H_executeFar 94 = .ok (.aload_n 0, 1) := by decide +kernel
theorem d_H_executeFar_95 : decode b_H_executeFar 95 = .ok (.getfield 35, 3) := by decide +kernel
theorem d_H_executeFar_98 : decode b_H_executeFar 98 = .ok (.iload_n 2, 1) := by decide +kernel
theorem d_H_executeFar_99 : decode b_H_executeFar 99 = .ok (.iload_n 3, 1) := by decide +kernel
theorem d_H_executeFar_100 : decode b_H_executeFar 100 = .ok (.iastore, 1) := by decide +kernel
theorem d_H_executeFar_101 : decode b_H_executeFar 101 = .ok (.goto 17, 3) := by decide +kernel
theorem d_H_executeFar_104 : decode b_H_executeFar 104 = .ok (.aload_n 0, 1) := by decide +kernel
theorem d_H_executeFar_105 : decode b_H_executeFar 105 = .ok (.getfield 35, 3) := by decide +kernel
theorem d_H_executeFar_108 : decode b_H_executeFar 108 = .ok (.iload_n 2, 1) := by decide +kernel
theorem d_H_executeFar_109 : decode b_H_executeFar 109 = .ok (.iaload, 1) := by decide +kernel
theorem d_H_executeFar_110 : decode b_H_executeFar 110 = .ok (.ifCond .eq 8, 3) := by decide +kernel
theorem d_H_executeFar_113 : decode b_H_executeFar 113 = .ok (.aload_n 0, 1) := by decide +kernel
theorem d_H_executeFar_114 : decode b_H_executeFar 114 = .ok (.iload_n 3, 1) := by decide +kernel
theorem d_H_executeFar_115 : decode b_H_executeFar 115 = .ok (.putfield 115, 3) := by decide +kernel
theorem d_H_executeFar_118 : decode b_H_executeFar 118 = .ok (.return_, 1) := by decide +kernel
theorem d_H_enter_0 : decode b_H_enter 0 = .ok (.aload_n 0, 1) := by decide +kernel
theorem d_H_enter_1 : decode b_H_enter 1 = .ok (.getfield 118, 3) := by decide +kernel
theorem d_H_enter_4 : decode b_H_enter 4 = .ok (.bipush 8, 2) := by decide +kernel
theorem d_H_enter_6 : decode b_H_enter 6 = .ok (.if_icmp .ne 11, 3) := by decide +kernel
theorem d_H_enter_9 : decode b_H_enter 9 = .ok (.aload_n 0, 1) := by decide +kernel
theorem d_H_enter_10 : decode b_H_enter 10 = .ok (.iconst 3, 1) := by decide +kernel
theorem d_H_enter_11 : decode b_H_enter 11 = .ok (.putfield 124, 3) := by decide +kernel
theorem d_H_enter_14 : decode b_H_enter 14 = .ok (.goto 28, 3) := by decide +kernel
theorem d_H_enter_17 : decode b_H_enter 17 = .ok (.aload_n 0, 1) := by decide +kernel
theorem d_H_enter_18 : decode b_H_enter 18 = .ok (.getfield 38, 3) := by decide +kernel
theorem d_H_enter_21 : decode b_H_enter 21 = .ok (.aload_n 0, 1) := by decide +kernel
theorem d_H_enter_22 : decode b_H_enter 22 = .ok (.getfield 118, 3) := by decide +kernel
theorem d_H_enter_25 : decode b_H_enter 25 = .ok (.iload_n 1, 1) := by decide +kernel
theorem d_H_enter_26 : decode b_H_enter 26 = .ok (.iastore, 1) := by decide +kernel
theorem d_H_enter_27 : decode b_H_enter 27 = .ok (.aload_n 0, 1) := by decide +kernel
theorem d_H_enter_28 : decode b_H_enter 28 = .ok (.dup, 1) := by decide +kernel
theorem d_H_enter_29 : decode b_H_enter 29 = .ok (.getfield 118, 3) := by decide +kernel
theorem d_H_enter_32 : decode b_H_enter 32 = .ok (.iconst 1, 1) := by decide +kernel
theorem d_H_enter_33 : decode b_H_enter 33 = .ok (.iadd, 1) := by decide +kernel
theorem d_H_enter_34 : decode b_H_enter 34 = .ok (.putfield 118, 3) := by decide +kernel
theorem d_H_enter_37 : decode b_H_enter 37 = .ok (.aload_n 0, 1) := by decide +kernel
theorem d_H_enter_38 : decode b_H_enter 38 = .ok (.iload_n 2, 1) := by decide +kernel
theorem d_H_enter_39 : decode b_H_enter 39 = .ok (.putfield 115, 3) := by decide +kernel
theorem d_H_enter_42 : decode b_H_enter 42 = .ok (.return_, 1) := by decide +kernel
theorem d_H_executePlain_0 : decode b_H_executePlain 0 = .ok (.aload_n 0, 1) := by decide +kernel
theorem d_H_executePlain_1 : decode b_H_executePlain 1 = .ok (.getfield 115, 3) := by decide +kernel
theorem d_H_executePlain_4 : decode b_H_executePlain 4 = .ok (.aload_n 0, 1) := by decide +kernel
theorem d_H_executePlain_5 : decode b_H_executePlain 5 = .ok (.iload_n 1, 1) := by decide +kernel
theorem d_H_executePlain_6 : decode b_H_executePlain 6 = .ok (.invokevirtual 45, 3) := by decide +kernel
theorem d_H_executePlain_9 : decode b_H_executePlain 9 = .ok (.iadd, 1) := by decide +kernel
theorem d_H_executePlain_10 : decode b_H_executePlain 10 = .ok (.istore_n 2, 1) := by decide +kernel
theorem d_H_executePlain_11 : decode b_H_executePlain 11 = .ok (.aload_n 0, 1) := by decide +kernel
theorem d_H_executePlain_12 : decode b_H_executePlain 12 = .ok (.aload_n 0, 1) := by decide +kernel
theorem d_H_executePlain_13 : decode b_H_executePlain 13 = .ok (.getfield 115, 3) := by decide +kernel
theorem d_H_executePlain_16 : decode b_H_executePlain 16 = .ok (.iconst 1, 1) := by decide +kernel
theorem d_H_executePlain_17 : decode b_H_executePlain 17 = .ok (.iadd, 1) := by decide +kernel
theorem d_H_executePlain_18 : decode b_H_executePlain 18 = .ok (.invokevirtual 109, 3) := by decide +kernel
theorem d_H_executePlain_21 : decode b_H_executePlain 21 = .ok (.istore_n 3, 1) := by decide +kernel
theorem d_H_executePlain_22 : decode b_H_executePlain 22 = .ok (.iload_n 3, 1) := by decide +kernel
theorem d_H_executePlain_23 : decode b_H_executePlain 23 = .ok (.iconst 3, 1) := by decide +kernel
theorem d_H_executePlain_24 : decode b_H_executePlain 24 = .ok (.iand, 1) := by decide +kernel
theorem d_H_executePlain_25 : decode b_H_executePlain 25 = .ok (.istore 4, 2) := by decide +kernel
theorem d_H_executePlain_27 : decode b_H_executePlain 27 = .ok (.iload_n 1, 1) := by decide +kernel
theorem d_H_executePlain_28 : decode b_H_executePlain 28 = .ok (.ifCond .ne 11, 3) := by decide +kernel
theorem d_H_executePlain_31 : decode b_H_executePlain 31 = .ok (.aload_n 0, 1) := by decide +kernel
theorem d_H_executePlain_32 : decode b_H_executePlain 32 = .ok (.iconst 1, 1) := by decide +kernel
theorem d_H_executePlain_33 : decode b_H_executePlain 33 = .ok (.putfield 124, 3) := by decide +kernel
theorem d_H_executePlain_36 : decode b_H_executePlain 36 = .ok (.goto 128, 3) := by decide +kernel
theorem d_H_executePlain_39 : decode b_H_executePlain 39 = .ok (.iload_n 1, 1) := by decide +kernel
theorem d_H_executePlain_40 : decode b_H_executePlain 40 = .ok (.bipush 7, 2) := by decide +kernel
theorem d_H_executePlain_42 : decode b_H_executePlain 42 = .ok (.if_icmp .ne 10, 3) := by decide +kernel
theorem d_H_executePlain_45 : decode b_H_executePlain 45 = .ok (.aload_n 0, 1) := by decide +kernel
theorem d_H_executePlain_46 : decode b_H_executePlain 46 = .ok (.invokevirtual 143, 3) := by decide +kernel
theorem d_H_executePlain_49 : decode b_H_executePlain 49 = .ok (.goto 115, 3) := by decide +kernel
theorem d_H_executePlain_52 : decode b_H_executePlain 52 = .ok (.iload_n 1, 1) := by decide +kernel
theorem d_H_executePlain_53 : decode b_H_executePlain 53 = .ok (.iconst 4, 1) := by decide +kernel
theorem d_H_executePlain_54 : decode b_H_executePlain 54 = .ok (.if_icmp .ne 21, 3) := by decide +kernel
theorem d_H_executePlain_57 : decode b_H_executePlain 57 = .ok (.aload_n 0, 1) := by decide +kernel
theorem d_H_executePlain_58 : decode b_H_executePlain 58 = .ok (.iload_n 3, 1) := by decide +kernel
theorem d_H_executePlain_59 : decode b_H_executePlain 59 = .ok (.invokevirtual 146, 3) := by decide +kernel
theorem d_H_executePlain_62 : decode b_H_executePlain 62 = .ok (.istore 5, 2) := by decide +kernel
theorem d_H_executePlain_64 : decode b_H_executePlain 64 = .ok (.aload_n 0, 1) := by decide +kernel
theorem d_H_executePlain_65 : decode b_H_executePlain 65 = .ok (.iload_n 2, 1) := by decide +kernel
theorem d_H_executePlain_66 : decode b_H_executePlain 66 = .ok (.iload 5, 2) := by decide +kernel
theorem d_H_executePlain_68 : decode b_H_executePlain 68 = .ok (.iadd, 1) := by decide +kernel
theorem d_H_executePlain_69 : decode b_H_executePlain 69 = .ok (.putfield 115, 3) := by decide +kernel
theorem d_H_executePlain_72 : decode b_H_executePlain 72 = .ok (.goto 92, 3) := by decide +kernel
theorem d_H_executePlain_75 : decode b_H_executePlain 75 = .ok (.iload_n 1, 1) := by decide +kernel
theorem d_H_executePlain_76 : decode b_H_executePlain 76 = .ok (.iconst 5, 1) := by decide +kernel
theorem d_H_executePlain_77 : decode b_H_executePlain 77 = .ok (.if_icmp .ne 48, 3) := by decide +kernel
theorem d_H_executePlain_80 : decode b_H_executePlain 80 = .ok (.aload_n 0, 1) := by decide +kernel
theorem d_H_executePlain_81 : decode b_H_executePlain 81 = .ok (.aload_n 0, 1) := by decide +kernel
theorem d_H_executePlain_82 : decode b_H_executePlain 82 = .ok (.getfield 115, 3) := by decide +kernel
theorem d_H_executePlain_85 : decode b_H_executePlain 85 = .ok (.iconst 2, 1) := by decide +kernel
theorem d_H_executePlain_86 : decode b_H_executePlain 86 = .ok (.iadd, 1) := by decide +kernel
theorem d_H_executePlain_87 : decode b_H_executePlain 87 = .ok (.invokevirtual 109, 3) := by decide +kernel
theorem d_H_executePlain_90 : decode b_H_executePlain 90 = .ok (.istore 5, 2) := by decide +kernel
theorem d_H_executePlain_92 : decode b_H_executePlain 92 = .ok (.aload_n 0, 1) := by decide +kernel
theorem d_H_executePlain_93 : decode b_H_executePlain 93 = .ok (.iload 5, 2) := by decide +kernel
theorem d_H_executePlain_95 : decode b_H_executePlain 95 = .ok (.invokevirtual 146, 3) := by decide +kernel
theorem d_H_executePlain_98 : decode b_H_executePlain 98 = .ok (.istore 6, 2) := by decide +kernel
theorem d_H_executePlain_100 : decode b_H_executePlain 100 = .ok (.aload_n 0, 1) := by decide +kernel
theorem d_H_executePlain_101 : decode b_H_executePlain 101 = .ok (.aload_n 0, 1) := by decide +kernel
theorem d_H_executePlain_102 : decode b_H_executePlain 102 = .ok (.getfield 35, 3) := by decide +kernel
theorem d_H_executePlain_105 : decode b_H_executePlain 105 = .ok (.iload 4, 2) := by decide +kernel
theorem d_H_executePlain_107 : decode b_H_executePlain 107 = .ok (.iaload, 1) := by decide +kernel
theorem d_H_executePlain_108 : decode b_H_executePlain 108 = .ok (.ifCond .eq 10, 3) := by decide +kernel
theorem d_H_executePlain_111 : decode b_H_executePlain 111 = .ok (.iload_n 2, 1) := by decide +kernel
theorem d_H_executePlain_112 : decode b_H_executePlain 112 = .ok (.iload 6, 2) := by decide +kernel
theorem d_H_executePlain_114 : decode b_H_executePlain 114 = .ok (.iadd, 1) := by decide +kernel
theorem d_H_executePlain_115 : decode b_H_executePlain 115 = .ok (.goto 4, 3) := by decide +kernel
theorem d_H_executePlain_118 : decode b_H_executePlain 118 = .ok (.iload_n 2, 1) := by decide +kernel
theorem d_H_executePlain_119 : decode b_H_executePlain 119 = .ok (.putfield 115, 3) := by decide +kernel
theorem d_H_executePlain_122 : decode b_H_executePlain 122 = .ok (.goto 42, 3) := by decide +kernel
theorem d_H_executePlain_125 : decode b_H_executePlain 125 = .ok (.iload_n 1, 1) := by decide +kernel
theorem d_H_executePlain_126 : decode b_H_executePlain 126 = .ok (.bipush 6, 2) := by decide +kernel
theorem d_H_executePlain_128 : decode b_H_executePlain 128 = .ok (.if_icmp .ne 22, 3) := by decide +kernel
theorem d_H_executePlain_131 : decode b_H_executePlain 131 = .ok (.aload_n 0, 1) := by decide +kernel
theorem d_H_executePlain_132 : decode b_H_executePlain 132 = .ok (.iload_n 3, 1) := by decide +kernel
theorem d_H_executePlain_133 : decode b_H_executePlain 133 = .ok (.invokevirtual 146, 3) := by decide +kernel
theorem d_H_executePlain_136 : decode b_H_executePlain 136 = .ok (.istore 5, 2) := by decide +kernel
theorem d_H_executePlain_138 : decode b_H_executePlain 138 = .ok (.aload_n 0, 1) := by decide +kernel
theorem d_H_executePlain_139 : decode b_H_executePlain 139 = .ok (.iload_n 2, 1) := by decide +kernel
theorem d_H_executePlain_140 : decode b_H_executePlain 140 = .ok (.iload_n 2, 1) := by decide +kernel
theorem d_H_executePlain_141 : decode b_H_executePlain 141 = .ok (.iload 5, 2) := by decide +kernel
theorem d_H_executePlain_143 : decode b_H_executePlain 143 = .ok (.iadd, 1) := by decide +kernel
theorem d_H_executePlain_144 : decode b_H_executePlain 144 = .ok (.invokevirtual 139, 3) := by decide +kernel
theorem d_H_executePlain_147 : decode b_H_executePlain 147 = .ok (.goto 17, 3) := by decide +kernel
theorem d_H_executePlain_150 : decode b_H_executePlain 150 = .ok (.aload_n 0, 1) := by decide +kernel
theorem d_H_executePlain_151 : decode b_H_executePlain 151 = .ok (.iload_n 1, 1) := by decide +kernel
theorem d_H_executePlain_152 : decode b_H_executePlain 152 = .ok (.iload 4, 2) := by decide +kernel
theorem d_H_executePlain_154 : decode b_H_executePlain 154 = .ok (.iload_n 3, 1) := by decide +kernel
theorem d_H_executePlain_155 : decode b_H_executePlain 155 = .ok (.iload_n 2, 1) := by decide +kernel
theorem d_H_executePlain_156 : decode b_H_executePlain 156 = .ok (.invokevirtual 149, 3) := by decide +kernel
theorem d_H_executePlain_159 : decode b_H_executePlain 159 = .ok (.aload_n 0, 1) := by decide +kernel
theorem d_H_executePlain_160 : decode b_H_executePlain 160 = .ok (.iload_n 2, 1) := by decide +kernel
theorem d_H_executePlain_161 : decode b_H_executePlain 161 = .ok (.putfield 115, 3) := by decide +kernel
theorem d_H_executePlain_164 : decode b_H_executePlain 164 = .ok (.return_, 1) := by decide +kernel
theorem d_H_leave_0 : decode b_H_leave 0 = .ok (.aload_n 0, 1) := by decide +kernel
theorem d_H_leave_1 : decode b_H_leave 1 = .ok (.getfield 118, 3) := by decide +kernel
theorem d_H_leave_4 : decode b_H_leave 4 = .ok (.ifCond .ne 11, 3) := by decide +kernel
theorem d_H_leave_7 : decode b_H_leave 7 = .ok (.aload_n 0, 1) := by decide +kernel
theorem d_H_leave_8 : decode b_H_leave 8 = .ok (.iconst 1, 1) := by decide +kernel
theorem d_H_leave_9 : decode b_H_leave 9 = .ok (.putfield 124, 3) := by decide +kernel
theorem d_H_leave_12 : decode b_H_leave 12 = .ok (.goto 26, 3) := by decide +kernel
theorem d_H_leave_15 : decode b_H_leave 15 = .ok (.aload_n 0, 1) := by decide +kernel
theorem d_H_leave_16 : decode b_H_leave 16 = .ok (.dup, 1) := by decide +kernel
theorem d_H_leave_17 : decode b_H_leave 17 = .ok (.getfield 118, 3) := by decide +kernel
theorem d_H_leave_20 : decode b_H_leave 20 = .ok (.iconst 1, 1) := by decide +kernel
theorem d_H_leave_21 : decode b_H_leave 21 = .ok (.isub, 1) := by decide +kernel
theorem d_H_leave_22 : decode b_H_leave 22 = .ok (.putfield 118, 3) := by decide +kernel
theorem d_H_leave_25 : decode b_H_leave 25 = .ok (.aload_n 0, 1) := by decide +kernel
theorem d_H_leave_26 : decode b_H_leave 26 = .ok (.aload_n 0, 1) := by decide +kernel
theorem d_H_leave_27 : decode b_H_leave 27 = .ok (.getfield 38, 3) := by decide +kernel
theorem d_H_leave_30 : decode b_H_leave 30 = .ok (.aload_n 0, 1) := by decide +kernel
theorem d_H_leave_31 : decode b_H_leave 31 = .ok (.getfield 118, 3) := by decide +kernel
theorem d_H_leave_34 : decode b_H_leave 34 = .ok (.iaload, 1) := by decide +kernel
theorem d_H_leave_35 : decode b_H_leave 35 = .ok (.putfield 115, 3) := by decide +kernel
theorem d_H_leave_38 : decode b_H_leave 38 = .ok (.return_, 1) := by decide +kernel
theorem d_H_signed_0 : decode b_H_signed 0 = .ok (.iload_n 1, 1) := by decide +kernel
theorem d_H_signed_1 : decode b_H_signed 1 = .ok (.bipush 127, 2) := by decide +kernel
theorem d_H_signed_3 : decode b_H_signed 3 = .ok (.if_icmp .le 11, 3) := by decide +kernel
theorem d_H_signed_6 : decode b_H_signed 6 = .ok (.iload_n 1, 1) := by decide +kernel
theorem d_H_signed_7 : decode b_H_signed 7 = .ok (.sipush 256, 3) := by decide +kernel
theorem d_H_signed_10 : decode b_H_signed 10 = .ok (.isub, 1) := by decide +kernel
theorem d_H_signed_11 : decode b_H_signed 11 = .ok (.goto 4, 3) := by decide +kernel
theorem d_H_signed_14 : decode b_H_signed 14 = .ok (.iload_n 1, 1) := by decide +kernel
theorem d_H_signed_15 : decode b_H_signed 15 = .ok (.ireturn, 1) := by decide +kernel
theorem d_H_change_0 : decode b_H_change 0 = .ok (.iload_n 1, 1) := by decide +kernel
theorem d_H_change_1 : decode b_H_change 1 = .ok (.iconst 1, 1) := by decide +kernel
theorem d_H_change_2 : decode b_H_change 2 = .ok (.if_icmp .ne 20, 3) := by decide +kernel
theorem d_H_change_5 : decode b_H_change 5 = .ok (.aload_n 0, 1) := by decide +kernel
theorem d_H_change_6 : decode b_H_change 6 = .ok (.getfield 35, 3) := by decide +kernel
theorem d_H_change_9 : decode b_H_change 9 = .ok (.iload_n 2, 1) := by decide +kernel
theorem d_H_change_10 : decode b_H_change 10 = .ok (.aload_n 0, 1) := by decide +kernel
theorem d_H_change_11 : decode b_H_change 11 = .ok (.getfield 35, 3) := by decide +kernel
theorem d_H_change_14 : decode b_H_change 14 = .ok (.iload_n 2, 1) := by decide +kernel
theorem d_H_change_15 : decode b_H_change 15 = .ok (.iaload, 1) := by decide +kernel
theorem d_H_change_16 : decode b_H_change 16 = .ok (.iconst 1, 1) := by decide +kernel
theorem d_H_change_17 : decode b_H_change 17 = .ok (.iadd, 1) := by decide +kernel
theorem d_H_change_18 : decode b_H_change 18 = .ok (.iastore, 1) := by decide +kernel
theorem d_H_change_19 : decode b_H_change 19 = .ok (.goto 57, 3) := by decide +kernel
theorem d_H_change_22 : decode b_H_change 22 = .ok (.iload_n 1, 1) := by decide +kernel
theorem d_H_change_23 : decode b_H_change 23 = .ok (.iconst 2, 1) := by decide +kernel
theorem d_H_change_24 : decode b_H_change 24 = .ok (.if_icmp .ne 20, 3) := by decide +kernel
theorem d_H_change_27 : decode b_H_change 27 = .ok (.aload_n 0, 1) := by decide +kernel
theorem d_H_change_28 : decode b_H_change 28 = .ok (.getfield 35, 3) := by decide +kernel
theorem d_H_change_31 : decode b_H_change 31 = .ok (.iload_n 2, 1) := by decide +kernel
theorem d_H_change_32 : decode b_H_change 32 = .ok (.aload_n 0, 1) := by decide +kernel
theorem d_H_change_33 : decode b_H_change 33 = .ok (.getfield 35, 3) := by decide +kernel
theorem d_H_change_36 : decode b_H_change 36 = .ok (.iload_n 2, 1) := by decide +kernel
theorem d_H_change_37 : decode b_H_change 37 = .ok (.iaload, 1) := by decide +kernel
theorem d_H_change_38 : decode b_H_change 38 = .ok (.iconst 1, 1) := by decide +kernel
theorem d_H_change_39 : decode b_H_change 39 = .ok (.isub, 1) := by decide +kernel
theorem d_H_change_40 : decode b_H_change 40 = .ok (.iastore, 1) := by decide +kernel
theorem d_H_change_41 : decode b_H_change 41 = .ok (.goto 35, 3) := by decide +kernel
theorem d_H_change_44 : decode b_H_change 44 = .ok (.iload_n 1, 1) := by decide +kernel
theorem d_H_change_45 : decode b_H_change 45 = .ok (.iconst 3, 1) := by decide +kernel
theorem d_H_change_46 : decode b_H_change 46 = .ok (.if_icmp .ne 22, 3) := by decide +kernel
theorem d_H_change_49 : decode b_H_change 49 = .ok (.aload_n 0, 1) := by decide +kernel
theorem d_H_change_50 : decode b_H_change 50 = .ok (.getfield 35, 3) := by decide +kernel
theorem d_H_change_53 : decode b_H_change 53 = .ok (.iload_n 2, 1) := by decide +kernel
theorem d_H_change_54 : decode b_H_change 54 = .ok (.aload_n 0, 1) := by decide +kernel
theorem d_H_change_55 : decode b_H_change 55 = .ok (.getfield 35, 3) := by decide +kernel
theorem d_H_change_58 : decode b_H_change 58 = .ok (.iload_n 3, 1) := by decide +kernel
theorem d_H_change_59 : decode b_H_change 59 = .ok (.iconst 2, 1) := by decide +kernel
theorem d_H_change_60 : decode b_H_change 60 = .ok (.ishr, 1) := by decide +kernel
theorem d_H_change_61 : decode b_H_change 61 = .ok (.iconst 3, 1) := by decide +kernel
theorem d_H_change_62 : decode b_H_change 62 = .ok (.iand, 1) := by decide +kernel
theorem d_H_change_63 : decode b_H_change 63 = .ok (.iaload, 1) := by decide +kernel
theorem d_H_change_64 : decode b_H_change 64 = .ok (.iastore, 1) := by decide +kernel
theorem d_H_change_65 : decode b_H_change 65 = .ok (.goto 11, 3) := by decide +kernel
theorem d_H_change_68 : decode b_H_change 68 = .ok (.aload_n 0, 1) := by decide +kernel
theorem d_H_change_69 : decode b_H_change 69 = .ok (.getfield 35, 3) := by decide +kernel
theorem d_H_change_72 : decode b_H_change 72 = .ok (.iload_n 2, 1) := by decide +kernel
theorem d_H_change_73 : decode b_H_change 73 = .ok (.iload 4, 2) := by decide +kernel
theorem d_H_change_75 : decode b_H_change 75 = .ok (.iastore, 1) := by decide +kernel
theorem d_H_change_76 : decode b_H_change 76 = .ok (.return_, 1) := by decide +kernel
theorem d_H_ending_0 : decode b_H_ending 0 = .ok (.aload_n 0, 1) := by decide +kernel
theorem d_H_ending_1 : decode b_H_ending 1 = .ok (.getfield 124, 3) := by decide +kernel
theorem d_H_ending_4 : decode b_H_ending 4 = .ok (.ireturn, 1) := by decide +kernel
theorem d_H_executed_0 : decode b_H_executed 0 = .ok (.aload_n 0, 1) := by decide +kernel
theorem d_H_executed_1 : decode b_H_executed 1 = .ok (.getfield 121, 3) := by decide +kernel
theorem d_H_executed_4 : decode b_H_executed 4 = .ok (.ireturn, 1) := by decide +kernel
end
section
theorem d_M_init_0 : decode b_M_init 0 = .ok (.aload_n 0, 1) := by decide +kernel
theorem d_M_init_1 : decode b_M_init 1 = .ok (.invokespecial 1, 3) := by decide +kernel
theorem d_M_init_4 : decode b_M_init 4 = .ok (.aload_n 0, 1) := by decide +kernel
theorem d_M_init_5 : decode b_M_init 5 = .ok (.bipush 64, 2) := by decide +kernel
theorem d_M_init_7 : decode b_M_init 7 = .ok (.newarray .int, 2) := by decide +kernel
theorem d_M_init_9 : decode b_M_init 9 = .ok (.putfield 7, 3) := by decide +kernel
theorem d_M_init_12 : decode b_M_init 12 = .ok (.aload_n 0, 1) := by decide +kernel
theorem d_M_init_13 : decode b_M_init 13 = .ok (.bipush 64, 2) := by decide +kernel
theorem d_M_init_15 : decode b_M_init 15 = .ok (.newarray .boolean, 2) := by decide +kernel
theorem d_M_init_17 : decode b_M_init 17 = .ok (.putfield 13, 3) := by decide +kernel
theorem d_M_init_20 : decode b_M_init 20 = .ok (.aload_n 0, 1) := by decide +kernel
theorem d_M_init_21 : decode b_M_init 21 = .ok (.iconst 4, 1) := by decide +kernel
theorem d_M_init_22 : decode b_M_init 22 = .ok (.newarray .int, 2) := by decide +kernel
theorem d_M_init_24 : decode b_M_init 24 = .ok (.putfield 17, 3) := by decide +kernel
theorem d_M_init_27 : decode b_M_init 27 = .ok (.aload_n 0, 1) := by decide +kernel
theorem d_M_init_28 : decode b_M_init 28 = .ok (.bipush 64, 2) := by decide +kernel
theorem d_M_init_30 : decode b_M_init 30 = .ok (.newarray .boolean, 2) := by decide +kernel
theorem d_M_init_32 : decode b_M_init 32 = .ok (.putfield 20, 3) := by decide +kernel
theorem d_M_init_35 : decode b_M_init 35 = .ok (.aload_n 0, 1) := by decide +kernel
theorem d_M_init_36 : decode b_M_init 36 = .ok (.bipush 64, 2) := by decide +kernel
theorem d_M_init_38 : decode b_M_init 38 = .ok (.newarray .int, 2) := by decide +kernel
theorem d_M_init_40 : decode b_M_init 40 = .ok (.putfield 23, 3) := by decide +kernel
theorem d_M_init_43 : decode b_M_init 43 = .ok (.aload_n 0, 1) := by decide +kernel
theorem d_M_init_44 : decode b_M_init 44 = .ok (.bipush 8, 2) := by decide +kernel
theorem d_M_init_46 : decode b_M_init 46 = .ok (.newarray .int, 2) := by decide +kernel
theorem d_M_init_48 : decode b_M_init 48 = .ok (.putfield 26, 3) := by decide +kernel
theorem d_M_init_51 : decode b_M_init 51 = .ok (.return_, 1) := by decide +kernel
theorem d_M_halt_0 : decode b_M_halt 0 = .ok (.aload_n 0, 1) := by decide +kernel
theorem d_M_halt_1 : decode b_M_halt 1 = .ok (.iconst 1, 1) := by decide +kernel
theorem d_M_halt_2 : decode b_M_halt 2 = .ok (.iconst 0, 1) := by decide +kernel
theorem d_M_halt_3 : decode b_M_halt 3 = .ok (.iconst 0, 1) := by decide +kernel
theorem d_M_halt_4 : decode b_M_halt 4 = .ok (.iconst 0, 1) := by decide +kernel
theorem d_M_halt_5 : decode b_M_halt 5 = .ok (.invokevirtual 37, 3) := by decide +kernel
theorem d_M_halt_8 : decode b_M_halt 8 = .ok (.ireturn, 1) := by decide +kernel
theorem d_M_append_0 : decode b_M_append 0 = .ok (.aload_n 0, 1) := by decide +kernel
theorem d_M_append_1 : decode b_M_append 1 = .ok (.invokevirtual 29, 3) := by decide +kernel
theorem d_M_append_4 : decode b_M_append 4 = .ok (.ifCond .le 6, 3) := by decide +kernel
theorem d_M_append_7 : decode b_M_append 7 = .ok (.bipush (-3), 2) := by decide +kernel
theorem d_M_append_9 : decode b_M_append 9 = .ok (.ireturn, 1) := by decide +kernel
theorem d_M_append_10 : decode b_M_append 10 = .ok (.aload_n 0, 1) := by decide +kernel
theorem d_M_append_11 : decode b_M_append 11 = .ok (.getfield 33, 3) := by decide +kernel
theorem d_M_append_14 : decode b_M_append 14 = .ok (.iload_n 1, 1) := by decide +kernel
theorem d_M_append_15 : decode b_M_append 15 = .ok (.iadd, 1) := by decide +kernel
theorem d_M_append_16 : decode b_M_append 16 = .ok (.bipush 64, 2) := by decide +kernel
theorem d_M_append_18 : decode b_M_append 18 = .ok (.if_icmp .le 6, 3) := by decide +kernel
theorem d_M_append_21 : decode b_M_append 21 = .ok (.bipush (-2), 2) := by decide +kernel
theorem d_M_append_23 : decode b_M_append 23 = .ok (.ireturn, 1) := by decide +kernel
theorem d_M_append_24 : decode b_M_append 24 = .ok (.aload_n 0, 1) := by decide +kernel
theorem d_M_append_25 : decode b_M_append 25 = .ok (.getfield 33, 3) := by decide +kernel
theorem d_M_append_28 : decode b_M_append 28 = .ok (.istore 5, 2) := by decide +kernel
theorem d_M_append_30 : decode b_M_append 30 = .ok (.iconst 0, 1) := by decide +kernel
theorem d_M_append_31 : decode b_M_append 31 = .ok (.istore 6, 2) := by decide +kernel
theorem d_M_append_33 : decode b_M_append 33 = .ok (.iload 6, 2) := by decide +kernel
theorem d_M_append_35 : decode b_M_append 35 = .ok (.iload_n 1, 1) := by decide +kernel
theorem d_M_append_36 : decode b_M_append 36 = .ok (.if_icmp .ge 76, 3) := by decide +kernel
theorem d_M_append_39 : decode b_M_append 39 = .ok (.aload_n 0, 1) := by decide +kernel
theorem d_M_append_40 : decode b_M_append 40 = .ok (.getfield 7, 3) := by decide +kernel
theorem d_M_append_43 : decode b_M_append 43 = .ok (.aload_n 0, 1) := by decide +kernel
theorem d_M_append_44 : decode b_M_append 44 = .ok (.getfield 33, 3) := by decide +kernel
theorem d_M_append_47 : decode b_M_append 47 = .ok (.iload 6, 2) := by decide +kernel
theorem d_M_append_49 : decode b_M_append 49 = .ok (.ifCond .ne 7, 3) := by decide +kernel
theorem d_M_append_52 : decode b_M_append 52 = .ok (.iload_n 2, 1) := by decide +kernel
theorem d_M_append_53 : decode b_M_append 53 = .ok (.goto 23, 3) := by decide +kernel
theorem d_M_append_56 : decode b_M_append 56 = .ok (.iload 6, 2) := by decide +kernel
theorem d_M_append_58 : decode b_M_append 58 = .ok (.iconst 1, 1) := by decide +kernel
theorem d_M_append_59 : decode b_M_append 59 = .ok (.if_icmp .ne 11, 3) := by decide +kernel
theorem d_M_append_62 : decode b_M_append 62 = .ok (.iload_n 3, 1) := by decide +kernel
theorem d_M_append_63 : decode b_M_append 63 = .ok (.sipush 255, 3) := by decide +kernel
theorem d_M_append_66 : decode b_M_append 66 = .ok (.iand, 1) := by decide +kernel
theorem d_M_append_67 : decode b_M_append 67 = .ok (.goto 9, 3) := by decide +kernel
theorem d_M_append_70 : decode b_M_append 70 = .ok (.iload 4, 2) := by decide +kernel
theorem d_M_append_72 : decode b_M_append 72 = .ok (.sipush 255, 3) := by decide +kernel
theorem d_M_append_75 : decode b_M_append 75 = .ok (.iand, 1) := by decide +kernel
theorem d_M_append_76 : decode b_M_append 76 = .ok (.iastore, 1) := by decide +kernel
theorem d_M_append_77 : decode b_M_append 77 = .ok (.aload_n 0, 1) := by decide +kernel
theorem d_M_append_78 : decode b_M_append 78 = .ok (.getfield 13, 3) := by decide +kernel
theorem d_M_append_81 : decode b_M_append 81 = .ok (.aload_n 0, 1) := by decide +kernel
theorem d_M_append_82 : decode b_M_append 82 = .ok (.getfield 33, 3) := by decide +kernel
theorem d_M_append_85 : decode b_M_append 85 = .ok (.iload 6, 2) := by decide +kernel
theorem d_M_append_87 : decode b_M_append 87 = .ok (.ifCond .ne 7, 3) := by decide +kernel
theorem d_M_append_90 : decode b_M_append 90 = .ok (.iconst 1, 1) := by decide +kernel
theorem d_M_append_91 : decode b_M_append 91 = .ok (.goto 4, 3) := by decide +kernel
theorem d_M_append_94 : decode b_M_append 94 = .ok (.iconst 0, 1) := by decide +kernel
theorem d_M_append_95 : decode b_M_append 95 = .ok (.bastore, 1) := by decide +kernel
theorem d_M_append_96 : decode b_M_append 96 = .ok (.aload_n 0, 1) := by decide +kernel
theorem d_M_append_97 : decode b_M_append 97 = .ok (.dup, 1) := by decide +kernel
theorem d_M_append_98 : decode b_M_append 98 = .ok (.getfield 33, 3) := by decide +kernel
theorem d_M_append_101 : decode b_M_append 101 = .ok (.iconst 1, 1) := by decide +kernel
theorem d_M_append_102 : decode b_M_append 102 = .ok (.iadd, 1) := by decide +kernel
theorem d_M_append_103 : decode b_M_append 103 = .ok (.putfield 33, 3) := by decide +kernel
theorem d_M_append_106 : decode b_M_append 106 = .ok (.iinc 6 1, 3) := by decide +kernel
theorem d_M_append_109 : decode b_M_append 109 = .ok (.goto (-76), 3) := by decide +kernel
theorem d_M_append_112 : decode b_M_append 112 = .ok (.iload 5, 2) := by decide +kernel
theorem d_M_append_114 : decode b_M_append 114 = .ok (.ireturn, 1) := by decide +kernel
theorem d_M_hooks_0 : decode b_M_hooks 0 = .ok (.iconst 0, 1) := by decide +kernel
theorem d_M_hooks_1 : decode b_M_hooks 1 = .ok (.istore_n 1, 1) := by decide +kernel
theorem d_M_hooks_2 : decode b_M_hooks 2 = .ok (.iconst 0, 1) := by decide +kernel
theorem d_M_hooks_3 : decode b_M_hooks 3 = .ok (.istore_n 2, 1) := by decide +kernel
theorem d_M_hooks_4 : decode b_M_hooks 4 = .ok (.iload_n 2, 1) := by decide +kernel
theorem d_M_hooks_5 : decode b_M_hooks 5 = .ok (.bipush 64, 2) := by decide +kernel
theorem d_M_hooks_7 : decode b_M_hooks 7 = .ok (.if_icmp .ge 21, 3) := by decide +kernel
theorem d_M_hooks_10 : decode b_M_hooks 10 = .ok (.aload_n 0, 1) := by decide +kernel
theorem d_M_hooks_11 : decode b_M_hooks 11 = .ok (.getfield 20, 3) := by decide +kernel
theorem d_M_hooks_14 : decode b_M_hooks 14 = .ok (.iload_n 2, 1) := by decide +kernel
theorem d_M_hooks_15 : decode b_M_hooks 15 = .ok (.baload, 1) := by decide +kernel
theorem d_M_hooks_16 : decode b_M_hooks 16 = .ok (.ifCond .eq 6, 3) := by decide +kernel
theorem d_M_hooks_19 : decode b_M_hooks 19 = .ok (.iinc 1 1, 3) := by decide +kernel
theorem d_M_hooks_22 : decode b_M_hooks 22 = .ok (.iinc 2 1, 3) := by decide +kernel
theorem d_M_hooks_25 : decode b_M_hooks 25 = .ok (.goto (-21), 3) := by decide +kernel
theorem d_M_hooks_28 : decode b_M_hooks 28 = .ok (.iload_n 1, 1) := by decide +kernel
theorem d_M_hooks_29 : decode b_M_hooks 29 = .ok (.ireturn, 1) := by decide +kernel
theorem d_M_inc_0 : decode b_M_inc 0 = .ok (.aload_n 0, 1) := by decide +kernel
theorem d_M_inc_1 : decode b_M_inc 1 = .ok (.iload_n 1, 1) := by decide +kernel
theorem d_M_inc_2 : decode b_M_inc 2 = .ok (.invokevirtual 41, 3) := by decide +kernel
theorem d_M_inc_5 : decode b_M_inc 5 = .ok (.ifCond .eq 14, 3) := by decide +kernel
theorem d_M_inc_8 : decode b_M_inc 8 = .ok (.aload_n 0, 1) := by decide +kernel
theorem d_M_inc_9 : decode b_M_inc 9 = .ok (.iconst 2, 1) := by decide +kernel
theorem d_M_inc_10 : decode b_M_inc 10 = .ok (.iconst 1, 1) := by decide +kernel
theorem d_M_inc_11 : decode b_M_inc 11 = .ok (.iload_n 1, 1) := by decide +kernel
theorem d_M_inc_12 : decode b_M_inc 12 = .ok (.iconst 0, 1) := by decide +kernel
theorem d_M_inc_13 : decode b_M_inc 13 = .ok (.invokevirtual 37, 3) := by decide +kernel
theorem d_M_inc_16 : decode b_M_inc 16 = .ok (.goto 4, 3) := by decide +kernel
theorem d_M_inc_19 : decode b_M_inc 19 = .ok (.iconst (-1), 1) := by decide +kernel
theorem d_M_inc_20 : decode b_M_inc 20 = .ok (.ireturn, 1) := by decide +kernel
theorem d_M_isRegister_0 : decode b_M_isRegister 0 = .ok (.iload_n 1, 1) := by decide +kernel
theorem d_M_isRegister_1 : decode b_M_isRegister 1 = .ok (.ifCond .lt 12, 3) := by decide +kernel
theorem d_M_isRegister_4 : decode b_M_isRegister 4 = .ok (.iload_n 1, 1) := by decide +kernel
theorem d_M_isRegister_5 : decode b_M_isRegister 5 = .ok (.iconst 3, 1) := by decide +kernel
theorem d_M_isRegister_6 : decode b_M_isRegister 6 = .ok (.if_icmp .gt 7, 3) := by decide +kernel
theorem d_M_isRegister_9 : decode b_M_isRegister 9 = .ok (.iconst 1, 1) := by decide +kernel
theorem d_M_isRegister_10 : decode b_M_isRegister 10 = .ok (.goto 4, 3) := by decide +kernel
theorem d_M_isRegister_13 : decode b_M_isRegister 13 = .ok (.iconst 0, 1) := by decide +kernel
theorem d_M_isRegister_14 : decode b_M_isRegister 14 = .ok (.ireturn, 1) := by decide +kernel
theorem d_M_dec_0 : decode b_M_dec 0 = .ok (.aload_n 0, 1) := by decide +kernel
theorem d_M_dec_1 : decode b_M_dec 1 = .ok (.iload_n 1, 1) := by decide +kernel
theorem d_M_dec_2 : decode b_M_dec 2 = .ok (.invokevirtual 41, 3) := by decide +kernel
theorem d_M_dec_5 : decode b_M_dec 5 = .ok (.ifCond .eq 14, 3) := by decide +kernel
theorem d_M_dec_8 : decode b_M_dec 8 = .ok (.aload_n 0, 1) := by decide +kernel
theorem d_M_dec_9 : decode b_M_dec 9 = .ok (.iconst 2, 1) := by decide +kernel
theorem d_M_dec_10 : decode b_M_dec 10 = .ok (.iconst 2, 1) := by decide +kernel
theorem d_M_dec_11 : decode b_M_dec 11 = .ok (.iload_n 1, 1) := by decide +kernel
theorem d_M_dec_12 : decode b_M_dec 12 = .ok (.iconst 0, 1) := by decide +kernel
theorem d_M_dec_13 : decode b_M_dec 13 = .ok (.invokevirtual 37, 3) := by decide +kernel
theorem d_M_dec_16 : decode b_M_dec 16 = .ok (.goto 4, 3) := by decide +kernel
theorem d_M_dec_19 : decode b_M_dec 19 = .ok (.iconst (-1), 1) := by decide +kernel
theorem d_M_dec_20 : decode b_M_dec 20 = .ok (.ireturn, 1) := by decide +kernel
theorem d_M_move_0 : decode b_M_move 0 = .ok (.aload_n 0, 1) := by decide +kernel
theorem d_M_move_1 : decode b_M_move 1 = .ok (.iload_n 1, 1) := by decide +kernel
theorem d_M_move_2 : decode b_M_move 2 = .ok (.invokevirtual 41, 3) := by decide +kernel
theorem d_M_move_5 : decode b_M_move 5 = .ok (.ifCond .eq 26, 3) := by decide +kernel
theorem d_M_move_8 : decode b_M_move 8 = .ok (.aload_n 0, 1) := by decide +kernel
theorem d_M_move_9 : decode b_M_move 9 = .ok (.iload_n 2, 1) := by decide +kernel
theorem d_M_move_10 : decode b_M_move 10 = .ok (.invokevirtual 41, 3) := by decide +kernel
theorem d_M_move_13 : decode b_M_move 13 = .ok (.ifCond .eq 18, 3) := by decide +kernel
theorem d_M_move_16 : decode b_M_move 16 = .ok (.aload_n 0, 1) := by decide +kernel
theorem d_M_move_17 : decode b_M_move 17 = .ok (.iconst 2, 1) := by decide +kernel
theorem d_M_move_18 : decode b_M_move 18 = .ok (.iconst 3, 1) := by decide +kernel
theorem d_M_move_19 : decode b_M_move 19 = .ok (.iload_n 1, 1) := by decide +kernel
theorem d_M_move_20 : decode b_M_move 20 = .ok (.iconst 4, 1) := by decide +kernel
theorem d_M_move_21 : decode b_M_move 21 = .ok (.iload_n 2, 1) := by decide +kernel
theorem d_M_move_22 : decode b_M_move 22 = .ok (.imul, 1) := by decide +kernel
theorem d_M_move_23 : decode b_M_move 23 = .ok (.iadd, 1) := by decide +kernel
theorem d_M_move_24 : decode b_M_move 24 = .ok (.iconst 0, 1) := by decide +kernel
theorem d_M_move_25 : decode b_M_move 25 = .ok (.invokevirtual 37, 3) := by decide +kernel
theorem d_M_move_28 : decode b_M_move 28 = .ok (.goto 4, 3) := by decide +kernel
theorem d_M_move_31 : decode b_M_move 31 = .ok (.iconst (-1), 1) := by decide +kernel
theorem d_M_move_32 : decode b_M_move 32 = .ok (.ireturn, 1) := by decide +kernel
theorem d_M_jump_0 : decode b_M_jump 0 = .ok (.aload_n 0, 1) := by decide +kernel
theorem d_M_jump_1 : decode b_M_jump 1 = .ok (.iload_n 1, 1) := by decide +kernel
theorem d_M_jump_2 : decode b_M_jump 2 = .ok (.invokevirtual 45, 3) := by decide +kernel
theorem d_M_jump_5 : decode b_M_jump 5 = .ok (.ifCond .eq 14, 3) := by decide +kernel
theorem d_M_jump_8 : decode b_M_jump 8 = .ok (.aload_n 0, 1) := by decide +kernel
theorem d_M_jump_9 : decode b_M_jump 9 = .ok (.iconst 2, 1) := by decide +kernel
theorem d_M_jump_10 : decode b_M_jump 10 = .ok (.iconst 4, 1) := by decide +kernel
theorem d_M_jump_11 : decode b_M_jump 11 = .ok (.iload_n 1, 1) := by decide +kernel
theorem d_M_jump_12 : decode b_M_jump 12 = .ok (.iconst 0, 1) := by decide +kernel
theorem d_M_jump_13 : decode b_M_jump 13 = .ok (.invokevirtual 37, 3) := by decide +kernel
theorem d_M_jump_16 : decode b_M_jump 16 = .ok (.goto 4, 3) := by decide +kernel
theorem d_M_jump_19 : decode b_M_jump 19 = .ok (.iconst (-1), 1) := by decide +kernel
theorem d_M_jump_20 : decode b_M_jump 20 = .ok (.ireturn, 1) := by decide +kernel
theorem d_M_isTarget_0 : decode b_M_isTarget 0 = .ok (.iload_n 1, 1) := by decide +kernel
theorem d_M_isTarget_1 : decode b_M_isTarget 1 = .ok (.bipush (-128), 2) := by decide +kernel
theorem d_M_isTarget_3 : decode b_M_isTarget 3 = .ok (.if_icmp .lt 13, 3) := by decide +kernel
theorem d_M_isTarget_6 : decode b_M_isTarget 6 = .ok (.iload_n 1, 1) := by decide +kernel
theorem d_M_isTarget_7 : decode b_M_isTarget 7 = .ok (.bipush 127, 2) := by decide +kernel
theorem d_M_isTarget_9 : decode b_M_isTarget 9 = .ok (.if_icmp .gt 7, 3) := by decide +kernel
theorem d_M_isTarget_12 : decode b_M_isTarget 12 = .ok (.iconst 1, 1) := by decide +kernel
theorem d_M_isTarget_13 : decode b_M_isTarget 13 = .ok (.goto 4, 3) := by decide +kernel
theorem d_M_isTarget_16 : decode b_M_isTarget 16 = .ok (.iconst 0, 1) := by decide +kernel
theorem d_M_isTarget_17 : decode b_M_isTarget 17 = .ok (.ireturn, 1) := by decide +kernel
theorem d_M_branch_0 : decode b_M_branch 0 = .ok (.aload_n 0, 1) := by decide +kernel
theorem d_M_branch_1 : decode b_M_branch 1 = .ok (.iload_n 1, 1) := by decide +kernel
theorem d_M_branch_2 : decode b_M_branch 2 = .ok (.invokevirtual 41, 3) := by decide +kernel
theorem d_M_branch_5 : decode b_M_branch 5 = .ok (.ifCond .eq 22, 3) := by decide +kernel
theorem d_M_branch_8 : decode b_M_branch 8 = .ok (.aload_n 0, 1) := by decide +kernel
theorem d_M_branch_9 : decode b_M_branch 9 = .ok (.iload_n 2, 1) := by decide +kernel
theorem d_M_branch_10 : decode b_M_branch 10 = .ok (.invokevirtual 45, 3) := by decide +kernel
theorem d_M_branch_13 : decode b_M_branch 13 = .ok (.ifCond .eq 14, 3) := by decide +kernel
theorem d_M_branch_16 : decode b_M_branch 16 = .ok (.aload_n 0, 1) := by decide +kernel
theorem d_M_branch_17 : decode b_M_branch 17 = .ok (.iconst 3, 1) := by decide +kernel
theorem d_M_branch_18 : decode b_M_branch 18 = .ok (.iconst 5, 1) := by decide +kernel
theorem d_M_branch_19 : decode b_M_branch 19 = .ok (.iload_n 1, 1) := by decide +kernel
theorem d_M_branch_20 : decode b_M_branch 20 = .ok (.iload_n 2, 1) := by decide +kernel
theorem d_M_branch_21 : decode b_M_branch 21 = .ok (.invokevirtual 37, 3) := by decide +kernel
theorem d_M_branch_24 : decode b_M_branch 24 = .ok (.goto 4, 3) := by decide +kernel
theorem d_M_branch_27 : decode b_M_branch 27 = .ok (.iconst (-1), 1) := by decide +kernel
theorem d_M_branch_28 : decode b_M_branch 28 = .ok (.ireturn, 1) := by decide +kernel
theorem d_M_call_0 : decode b_M_call 0 = .ok (.aload_n 0, 1) := by decide +kernel
theorem d_M_call_1 : decode b_M_call 1 = .ok (.iload_n 1, 1) := by decide +kernel
theorem d_M_call_2 : decode b_M_call 2 = .ok (.invokevirtual 45, 3) := by decide +kernel
theorem d_M_call_5 : decode b_M_call 5 = .ok (.ifCond .eq 15, 3) := by decide +kernel
theorem d_M_call_8 : decode b_M_call 8 = .ok (.aload_n 0, 1) := by decide +kernel
theorem d_M_call_9 : decode b_M_call 9 = .ok (.iconst 2, 1) := by decide +kernel
theorem d_M_call_10 : decode b_M_call 10 = .ok (.bipush 6, 2) := by decide +kernel
theorem d_M_call_12 : decode b_M_call 12 = .ok (.iload_n 1, 1) := by decide +kernel
theorem d_M_call_13 : decode b_M_call 13 = .ok (.iconst 0, 1) := by decide +kernel
theorem d_M_call_14 : decode b_M_call 14 = .ok (.invokevirtual 37, 3) := by decide +kernel
theorem d_M_call_17 : decode b_M_call 17 = .ok (.goto 4, 3) := by decide +kernel
theorem d_M_call_20 : decode b_M_call 20 = .ok (.iconst (-1), 1) := by decide +kernel
theorem d_M_call_21 : decode b_M_call 21 = .ok (.ireturn, 1) := by decide +kernel
theorem d_M_giveBack_0 : decode b_M_giveBack 0 = .ok (.aload_n 0, 1) := by decide +kernel
theorem d_M_giveBack_1 : decode b_M_giveBack 1 = .ok (.iconst 1, 1) := by decide +kernel
theorem d_M_giveBack_2 : decode b_M_giveBack 2 = .ok (.bipush 7, 2) := by decide +kernel
theorem d_M_giveBack_4 : decode b_M_giveBack 4 = .ok (.iconst 0, 1) := by decide +kernel
theorem d_M_giveBack_5 : decode b_M_giveBack 5 = .ok (.iconst 0, 1) := by decide +kernel
theorem d_M_giveBack_6 : decode b_M_giveBack 6 = .ok (.invokevirtual 37, 3) := by decide +kernel
theorem d_M_giveBack_9 : decode b_M_giveBack 9 = .ok (.ireturn, 1) := by decide +kernel
theorem d_M_where_0 : decode b_M_where 0 = .ok (.aload_n 0, 1) := by decide +kernel
theorem d_M_where_1 : decode b_M_where 1 = .ok (.iload_n 1, 1) := by decide +kernel
theorem d_M_where_2 : decode b_M_where 2 = .ok (.invokevirtual 41, 3) := by decide +kernel
theorem d_M_where_5 : decode b_M_where 5 = .ok (.ifCond .eq 15, 3) := by decide +kernel
theorem d_M_where_8 : decode b_M_where 8 = .ok (.aload_n 0, 1) := by decide +kernel
theorem d_M_where_9 : decode b_M_where 9 = .ok (.iconst 2, 1) := by decide +kernel
theorem d_M_where_10 : decode b_M_where 10 = .ok (.bipush 8, 2) := by decide +kernel
theorem d_M_where_12 : decode b_M_where 12 = .ok (.iload_n 1, 1) := by decide +kernel
theorem d_M_where_13 : decode b_M_where 13 = .ok (.iconst 0, 1) := by decide +kernel
theorem d_M_where_14 : decode b_M_where 14 = .ok (.invokevirtual 37, 3) := by decide +kernel
theorem d_M_where_17 : decode b_M_where 17 = .ok (.goto 4, 3) := by decide +kernel
theorem d_M_where_20 : decode b_M_where 20 = .ok (.iconst (-1), 1) := by decide +kernel
theorem d_M_where_21 : decode b_M_where 21 = .ok (.ireturn, 1) := by decide +kernel
theorem d_M_length_0 : decode b_M_length 0 = .ok (.aload_n 0, 1) := by decide +kernel
theorem d_M_length_1 : decode b_M_length 1 = .ok (.getfield 33, 3) := by decide +kernel
theorem d_M_length_4 : decode b_M_length 4 = .ok (.ireturn, 1) := by decide +kernel
theorem d_M_peek_0 : decode b_M_peek 0 = .ok (.iload_n 1, 1) := by decide +kernel
theorem d_M_peek_1 : decode b_M_peek 1 = .ok (.ifCond .lt 11, 3) := by decide +kernel
theorem d_M_peek_4 : decode b_M_peek 4 = .ok (.iload_n 1, 1) := by decide +kernel
theorem d_M_peek_5 : decode b_M_peek 5 = .ok (.aload_n 0, 1) := by decide +kernel
theorem d_M_peek_6 : decode b_M_peek 6 = .ok (.getfield 33, 3) := by decide +kernel
theorem d_M_peek_9 : decode b_M_peek 9 = .ok (.if_icmp .lt 7, 3) := by decide +kernel
theorem d_M_peek_12 : decode b_M_peek 12 = .ok (.iconst (-1), 1) := by decide +kernel
theorem d_M_peek_13 : decode b_M_peek 13 = .ok (.goto 9, 3) := by decide +kernel
theorem d_M_peek_16 : decode b_M_peek 16 = .ok (.aload_n 0, 1) := by decide +kernel
theorem d_M_peek_17 : decode b_M_peek 17 = .ok (.getfield 7, 3) := by decide +kernel
theorem d_M_peek_20 : decode b_M_peek 20 = .ok (.iload_n 1, 1) := by decide +kernel
theorem d_M_peek_21 : decode b_M_peek 21 = .ok (.iaload, 1) := by decide +kernel
theorem d_M_peek_22 : decode b_M_peek 22 = .ok (.ireturn, 1) := by decide +kernel
theorem d_M_clear_0 : decode b_M_clear 0 = .ok (.aload_n 0, 1) := by decide +kernel
theorem d_M_clear_1 : decode b_M_clear 1 = .ok (.invokevirtual 29, 3) := by decide +kernel
theorem d_M_clear_4 : decode b_M_clear 4 = .ok (.ifCond .le 6, 3) := by decide +kernel
theorem d_M_clear_7 : decode b_M_clear 7 = .ok (.bipush (-3), 2) := by decide +kernel
theorem d_M_clear_9 : decode b_M_clear 9 = .ok (.ireturn, 1) := by decide +kernel
theorem d_M_clear_10 : decode b_M_clear 10 = .ok (.aload_n 0, 1) := by decide +kernel
theorem d_M_clear_11 : decode b_M_clear 11 = .ok (.getfield 33, 3) := by decide +kernel
theorem d_M_clear_14 : decode b_M_clear 14 = .ok (.istore_n 1, 1) := by decide +kernel
theorem d_M_clear_15 : decode b_M_clear 15 = .ok (.aload_n 0, 1) := by decide +kernel
theorem d_M_clear_16 : decode b_M_clear 16 = .ok (.iconst 0, 1) := by decide +kernel
theorem d_M_clear_17 : decode b_M_clear 17 = .ok (.putfield 33, 3) := by decide +kernel
theorem d_M_clear_20 : decode b_M_clear 20 = .ok (.iload_n 1, 1) := by decide +kernel
theorem d_M_clear_21 : decode b_M_clear 21 = .ok (.ireturn, 1) := by decide +kernel
theorem d_M_setRegister_0 : decode b_M_setRegister 0 = .ok (.aload_n 0, 1) := by decide +kernel
theorem d_M_setRegister_1 : decode b_M_setRegister 1 = .ok (.iload_n 1, 1) := by decide +kernel
theorem d_M_setRegister_2 : decode b_M_setRegister 2 = .ok (.invokevirtual 41, 3) := by decide +kernel
theorem d_M_setRegister_5 : decode b_M_setRegister 5 = .ok (.ifCond .ne 5, 3) := by decide +kernel
theorem d_M_setRegister_8 : decode b_M_setRegister 8 = .ok (.iconst (-1), 1) := by decide +kernel
theorem d_M_setRegister_9 : decode b_M_setRegister 9 = .ok (.ireturn, 1) := by decide +kernel
theorem d_M_setRegister_10 : decode b_M_setRegister 10 = .ok (.aload_n 0, 1) := by decide +kernel
theorem d_M_setRegister_11 : decode b_M_setRegister 11 = .ok (.getfield 17, 3) := by decide +kernel
theorem d_M_setRegister_14 : decode b_M_setRegister 14 = .ok (.iload_n 1, 1) := by decide +kernel
theorem d_M_setRegister_15 : decode b_M_setRegister 15 = .ok (.iload_n 2, 1) := by decide +kernel
theorem d_M_setRegister_16 : decode b_M_setRegister 16 = .ok (.iastore, 1) := by decide +kernel
theorem d_M_setRegister_17 : decode b_M_setRegister 17 = .ok (.iconst 0, 1) := by decide +kernel
theorem d_M_setRegister_18 : decode b_M_setRegister 18 = .ok (.ireturn, 1) := by decide +kernel
theorem d_M_register_0 : decode b_M_register 0 = .ok (.aload_n 0, 1) := by decide +kernel
theorem d_M_register_1 : decode b_M_register 1 = .ok (.iload_n 1, 1) := by decide +kernel
theorem d_M_register_2 : decode b_M_register 2 = .ok (.invokevirtual 41, 3) := by decide +kernel
theorem d_M_register_5 : decode b_M_register 5 = .ok (.ifCond .eq 12, 3) := by decide +kernel
theorem d_M_register_8 : decode b_M_register 8 = .ok (.aload_n 0, 1) := by decide +kernel
theorem d_M_register_9 : decode b_M_register 9 = .ok (.getfield 17, 3) := by decide +kernel
theorem d_M_register_12 : decode b_M_register 12 = .ok (.iload_n 1, 1) := by decide +kernel
theorem d_M_register_13 : decode b_M_register 13 = .ok (.iaload, 1) := by decide +kernel
theorem d_M_register_14 : decode b_M_register 14 = .ok (.goto 4, 3) := by decide +kernel
theorem d_M_register_17 : decode b_M_register 17 = .ok (.iconst 0, 1) := by decide +kernel
theorem d_M_register_18 : decode b_M_register 18 = .ok (.ireturn, 1) := by decide +kernel
theorem d_M_hook_0 : decode b_M_hook 0 = .ok (.iload_n 1, 1) := by decide +kernel
theorem d_M_hook_1 : decode b_M_hook 1 = .ok (.ifCond .lt 9, 3) := by decide +kernel
theorem d_M_hook_4 : decode b_M_hook 4 = .ok (.iload_n 1, 1) := by decide +kernel
theorem d_M_hook_5 : decode b_M_hook 5 = .ok (.bipush 63, 2) := by decide +kernel
theorem d_M_hook_7 : decode b_M_hook 7 = .ok (.if_icmp .le 5, 3) := by decide +kernel
theorem d_M_hook_10 : decode b_M_hook 10 = .ok (.iconst (-1), 1) := by decide +kernel
theorem d_M_hook_11 : decode b_M_hook 11 = .ok (.ireturn, 1) := by decide +kernel
theorem d_M_hook_12 : decode b_M_hook 12 = .ok (.aload_n 0, 1) := by decide +kernel
theorem d_M_hook_13 : decode b_M_hook 13 = .ok (.getfield 20, 3) := by decide +kernel
theorem d_M_hook_16 : decode b_M_hook 16 = .ok (.iload_n 1, 1) := by decide +kernel
theorem d_M_hook_17 : decode b_M_hook 17 = .ok (.baload, 1) := by decide +kernel
theorem d_M_hook_18 : decode b_M_hook 18 = .ok (.ifCond .eq 6, 3) := by decide +kernel
theorem d_M_hook_21 : decode b_M_hook 21 = .ok (.bipush (-3), 2) := by decide +kernel
theorem d_M_hook_23 : decode b_M_hook 23 = .ok (.ireturn, 1) := by decide +kernel
theorem d_M_hook_24 : decode b_M_hook 24 = .ok (.aload_n 0, 1) := by decide +kernel
theorem d_M_hook_25 : decode b_M_hook 25 = .ok (.invokevirtual 29, 3) := by decide +kernel
theorem d_M_hook_28 : decode b_M_hook 28 = .ok (.iconst 4, 1) := by decide +kernel
theorem d_M_hook_29 : decode b_M_hook 29 = .ok (.if_icmp .ne 6, 3) := by decide +kernel
theorem d_M_hook_32 : decode b_M_hook 32 = .ok (.bipush (-2), 2) := by decide +kernel
theorem d_M_hook_34 : decode b_M_hook 34 = .ok (.ireturn, 1) := by decide +kernel
theorem d_M_hook_35 : decode b_M_hook 35 = .ok (.aload_n 0, 1) := by decide +kernel
theorem d_M_hook_36 : decode b_M_hook 36 = .ok (.iload_n 1, 1) := by decide +kernel
theorem d_M_hook_37 : decode b_M_hook 37 = .ok (.invokevirtual 55, 3) := by decide +kernel
theorem d_M_hook_40 : decode b_M_hook 40 = .ok (.istore_n 2, 1) := by decide +kernel
theorem d_M_hook_41 : decode b_M_hook 41 = .ok (.iload_n 2, 1) := by decide +kernel
theorem d_M_hook_42 : decode b_M_hook 42 = .ok (.ifCond .eq 21, 3) := by decide +kernel
theorem d_M_hook_45 : decode b_M_hook 45 = .ok (.aload_n 0, 1) := by decide +kernel
theorem d_M_hook_46 : decode b_M_hook 46 = .ok (.iload_n 1, 1) := by decide +kernel
theorem d_M_hook_47 : decode b_M_hook 47 = .ok (.iload_n 2, 1) := by decide +kernel
theorem d_M_hook_48 : decode b_M_hook 48 = .ok (.invokevirtual 61, 3) := by decide +kernel
theorem d_M_hook_51 : decode b_M_hook 51 = .ok (.ifCond .ne 12, 3) := by decide +kernel
theorem d_M_hook_54 : decode b_M_hook 54 = .ok (.aload_n 0, 1) := by decide +kernel
theorem d_M_hook_55 : decode b_M_hook 55 = .ok (.iload_n 1, 1) := by decide +kernel
theorem d_M_hook_56 : decode b_M_hook 56 = .ok (.iload_n 2, 1) := by decide +kernel
theorem d_M_hook_57 : decode b_M_hook 57 = .ok (.invokevirtual 65, 3) := by decide +kernel
theorem d_M_hook_60 : decode b_M_hook 60 = .ok (.ifCond .eq 6, 3) := by decide +kernel
theorem d_M_hook_63 : decode b_M_hook 63 = .ok (.bipush (-4), 2) := by decide +kernel
theorem d_M_hook_65 : decode b_M_hook 65 = .ok (.ireturn, 1) := by decide +kernel
theorem d_M_hook_66 : decode b_M_hook 66 = .ok (.aload_n 0, 1) := by decide +kernel
theorem d_M_hook_67 : decode b_M_hook 67 = .ok (.getfield 20, 3) := by decide +kernel
theorem d_M_hook_70 : decode b_M_hook 70 = .ok (.iload_n 1, 1) := by decide +kernel
theorem d_M_hook_71 : decode b_M_hook 71 = .ok (.iconst 1, 1) := by decide +kernel
theorem d_M_hook_72 : decode b_M_hook 72 = .ok (.bastore, 1) := by decide +kernel
theorem d_M_hook_73 : decode b_M_hook 73 = .ok (.aload_n 0, 1) := by decide +kernel
theorem d_M_hook_74 : decode b_M_hook 74 = .ok (.getfield 23, 3) := by decide +kernel
theorem d_M_hook_77 : decode b_M_hook 77 = .ok (.iload_n 1, 1) := by decide +kernel
theorem d_M_hook_78 : decode b_M_hook 78 = .ok (.iconst 0, 1) := by decide +kernel
theorem d_M_hook_79 : decode b_M_hook 79 = .ok (.iastore, 1) := by decide +kernel
theorem d_M_hook_80 : decode b_M_hook 80 = .ok (.iload_n 2, 1) := by decide +kernel
theorem d_M_hook_81 : decode b_M_hook 81 = .ok (.ireturn, 1) := by decide +kernel
theorem d_M_headOf_0 : decode b_M_headOf 0 = .ok (.aload_n 0, 1) := by decide +kernel
theorem d_M_headOf_1 : decode b_M_headOf 1 = .ok (.iload_n 1, 1) := by decide +kernel
theorem d_M_headOf_2 : decode b_M_headOf 2 = .ok (.invokevirtual 48, 3) := by decide +kernel
theorem d_M_headOf_5 : decode b_M_headOf 5 = .ok (.ifCond .ne 5, 3) := by decide +kernel
theorem d_M_headOf_8 : decode b_M_headOf 8 = .ok (.iconst 0, 1) := by decide +kernel
theorem d_M_headOf_9 : decode b_M_headOf 9 = .ok (.ireturn, 1) := by decide +kernel
theorem d_M_headOf_10 : decode b_M_headOf 10 = .ok (.iload_n 1, 1) := by decide +kernel
theorem d_M_headOf_11 : decode b_M_headOf 11 = .ok (.istore_n 2, 1) := by decide +kernel
theorem d_M_headOf_12 : decode b_M_headOf 12 = .ok (.iconst 0, 1) := by decide +kernel
theorem d_M_headOf_13 : decode b_M_headOf 13 = .ok (.istore_n 3, 1) := by decide +kernel
theorem d_M_headOf_14 : decode b_M_headOf 14 = .ok (.iload_n 3, 1) := by decide +kernel
theorem d_M_headOf_15 : decode b_M_headOf 15 = .ok (.iconst 3, 1) := by decide +kernel
theorem d_M_headOf_16 : decode b_M_headOf 16 = .ok (.if_icmp .ge 32, 3) := by decide +kernel
theorem d_M_headOf_19 : decode b_M_headOf 19 = .ok (.iload_n 2, 1) := by decide +kernel
theorem d_M_headOf_20 : decode b_M_headOf 20 = .ok (.iload_n 1, 1) := by decide +kernel
theorem d_M_headOf_21 : decode b_M_headOf 21 = .ok (.iconst 3, 1) := by decide +kernel
theorem d_M_headOf_22 : decode b_M_headOf 22 = .ok (.iadd, 1) := by decide +kernel
theorem d_M_headOf_23 : decode b_M_headOf 23 = .ok (.if_icmp .ge 25, 3) := by decide +kernel
theorem d_M_headOf_26 : decode b_M_headOf 26 = .ok (.iload_n 2, 1) := by decide +kernel
theorem d_M_headOf_27 : decode b_M_headOf 27 = .ok (.aload_n 0, 1) := by decide +kernel
theorem d_M_headOf_28 : decode b_M_headOf 28 = .ok (.getfield 33, 3) := by decide +kernel
theorem d_M_headOf_31 : decode b_M_headOf 31 = .ok (.if_icmp .lt 5, 3) := by decide +kernel
theorem d_M_headOf_34 : decode b_M_headOf 34 = .ok (.iconst 0, 1) := by decide +kernel
theorem d_M_headOf_35 : decode b_M_headOf 35 = .ok (.ireturn, 1) := by decide +kernel
theorem d_M_headOf_36 : decode b_M_headOf 36 = .ok (.aload_n 0, 1) := by decide +kernel
theorem d_M_headOf_37 : decode b_M_headOf 37 = .ok (.iload_n 2, 1) := by decide +kernel
theorem d_M_headOf_38 : decode b_M_headOf 38 = .ok (.invokevirtual 51, 3) := by decide +kernel
theorem d_M_headOf_41 : decode b_M_headOf 41 = .ok (.istore_n 2, 1) := by decide +kernel
theorem d_M_headOf_42 : decode b_M_headOf 42 = .ok (.iinc 3 1, 3) := by decide +kernel
theorem d_M_headOf_45 : decode b_M_headOf 45 = .ok (.goto (-31), 3) := by decide +kernel
theorem d_M_headOf_48 : decode b_M_headOf 48 = .ok (.iload_n 2, 1) := by decide +kernel
theorem d_M_headOf_49 : decode b_M_headOf 49 = .ok (.iload_n 1, 1) := by decide +kernel
theorem d_M_headOf_50 : decode b_M_headOf 50 = .ok (.isub, 1) := by decide +kernel
theorem d_M_headOf_51 : decode b_M_headOf 51 = .ok (.ireturn, 1) := by decide +kernel
theorem d_M_starts_0 : decode b_M_starts 0 = .ok (.iload_n 1, 1) := by decide +kernel
theorem d_M_starts_1 : decode b_M_starts 1 = .ok (.ifCond .lt 24, 3) := by decide +kernel
theorem d_M_starts_4 : decode b_M_starts 4 = .ok (.iload_n 1, 1) := by decide +kernel
theorem d_M_starts_5 : decode b_M_starts 5 = .ok (.aload_n 0, 1) := by decide +kernel
theorem d_M_starts_6 : decode b_M_starts 6 = .ok (.getfield 33, 3) := by decide +kernel
theorem d_M_starts_9 : decode b_M_starts 9 = .ok (.if_icmp .ge 16, 3) := by decide +kernel
theorem d_M_starts_12 : decode b_M_starts 12 = .ok (.aload_n 0, 1) := by decide +kernel
theorem d_M_starts_13 : decode b_M_starts 13 = .ok (.getfield 13, 3) := by decide +kernel
theorem d_M_starts_16 : decode b_M_starts 16 = .ok (.iload_n 1, 1) := by decide +kernel
theorem d_M_starts_17 : decode b_M_starts 17 = .ok (.baload, 1) := by decide +kernel
theorem d_M_starts_18 : decode b_M_starts 18 = .ok (.ifCond .eq 7, 3) := by decide +kernel
theorem d_M_starts_21 : decode b_M_starts 21 = .ok (.iconst 1, 1) := by decide +kernel
theorem d_M_starts_22 : decode b_M_starts 22 = .ok (.goto 4, 3) := by decide +kernel
theorem d_M_starts_25 : decode b_M_starts 25 = .ok (.iconst 0, 1) := by decide +kernel
theorem d_M_starts_26 : decode b_M_starts 26 = .ok (.ireturn, 1) := by decide +kernel
theorem d_M_nextOf_0 : decode b_M_nextOf 0 = .ok (.iload_n 1, 1) := by decide +kernel
theorem d_M_nextOf_1 : decode b_M_nextOf 1 = .ok (.iconst 1, 1) := by decide +kernel
theorem d_M_nextOf_2 : decode b_M_nextOf 2 = .ok (.iadd, 1) := by decide +kernel
theorem d_M_nextOf_3 : decode b_M_nextOf 3 = .ok (.istore_n 2, 1) := by decide +kernel
theorem d_M_nextOf_4 : decode b_M_nextOf 4 = .ok (.iload_n 2, 1) := by decide +kernel
theorem d_M_nextOf_5 : decode b_M_nextOf 5 = .ok (.aload_n 0, 1) := by decide +kernel
theorem d_M_nextOf_6 : decode b_M_nextOf 6 = .ok (.getfield 33, 3) := by decide +kernel
theorem d_M_nextOf_9 : decode b_M_nextOf 9 = .ok (.if_icmp .ge 18, 3) := by decide +kernel
theorem d_M_nextOf_12 : decode b_M_nextOf 12 = .ok (.aload_n 0, 1) := by decide +kernel
theorem d_M_nextOf_13 : decode b_M_nextOf 13 = .ok (.getfield 13, 3) := by decide +kernel
theorem d_M_nextOf_16 : decode b_M_nextOf 16 = .ok (.iload_n 2, 1) := by decide +kernel
theorem d_M_nextOf_17 : decode b_M_nextOf 17 = .ok (.baload, 1) := by decide +kernel
theorem d_M_nextOf_18 : decode b_M_nextOf 18 = .ok (.ifCond .ne 9, 3) := by decide +kernel
theorem d_M_nextOf_21 : decode b_M_nextOf 21 = .ok (.iinc 2 1, 3) := by decide +kernel
theorem d_M_nextOf_24 : decode b_M_nextOf 24 = .ok (.goto (-20), 3) := by decide +kernel
theorem d_M_nextOf_27 : decode b_M_nextOf 27 = .ok (.iload_n 2, 1) := by decide +kernel
theorem d_M_nextOf_28 : decode b_M_nextOf 28 = .ok (.ireturn, 1) := by decide +kernel
theorem d_M_overlaps_0 : decode b_M_overlaps 0 = .ok (.iconst 0, 1) := by decide +kernel
theorem d_M_overlaps_1 : decode b_M_overlaps 1 = .ok (.istore_n 3, 1) := by decide +kernel
theorem d_M_overlaps_2 : decode b_M_overlaps 2 = .ok (.iload_n 3, 1) := by decide +kernel
theorem d_M_overlaps_3 : decode b_M_overlaps 3 = .ok (.bipush 64, 2) := by decide +kernel
theorem d_M_overlaps_5 : decode b_M_overlaps 5 = .ok (.if_icmp .ge 38, 3) := by decide +kernel
theorem d_M_overlaps_8 : decode b_M_overlaps 8 = .ok (.aload_n 0, 1) := by decide +kernel
theorem d_M_overlaps_9 : decode b_M_overlaps 9 = .ok (.getfield 20, 3) := by decide +kernel
theorem d_M_overlaps_12 : decode b_M_overlaps 12 = .ok (.iload_n 3, 1) := by decide +kernel
theorem d_M_overlaps_13 : decode b_M_overlaps 13 = .ok (.baload, 1) := by decide +kernel
theorem d_M_overlaps_14 : decode b_M_overlaps 14 = .ok (.ifCond .eq 23, 3) := by decide +kernel
theorem d_M_overlaps_17 : decode b_M_overlaps 17 = .ok (.iload_n 1, 1) := by decide +kernel
theorem d_M_overlaps_18 : decode b_M_overlaps 18 = .ok (.iload_n 3, 1) := by decide +kernel
theorem d_M_overlaps_19 : decode b_M_overlaps 19 = .ok (.aload_n 0, 1) := by decide +kernel
theorem d_M_overlaps_20 : decode b_M_overlaps 20 = .ok (.iload_n 3, 1) := by decide +kernel
theorem d_M_overlaps_21 : decode b_M_overlaps 21 = .ok (.invokevirtual 55, 3) := by decide +kernel
theorem d_M_overlaps_24 : decode b_M_overlaps 24 = .ok (.iadd, 1) := by decide +kernel
theorem d_M_overlaps_25 : decode b_M_overlaps 25 = .ok (.if_icmp .ge 12, 3) := by decide +kernel
theorem d_M_overlaps_28 : decode b_M_overlaps 28 = .ok (.iload_n 3, 1) := by decide +kernel
theorem d_M_overlaps_29 : decode b_M_overlaps 29 = .ok (.iload_n 1, 1) := by decide +kernel
theorem d_M_overlaps_30 : decode b_M_overlaps 30 = .ok (.iload_n 2, 1) := by decide +kernel
theorem d_M_overlaps_31 : decode b_M_overlaps 31 = .ok (.iadd, 1) := by decide +kernel
theorem d_M_overlaps_32 : decode b_M_overlaps 32 = .ok (.if_icmp .ge 5, 3) := by decide +kernel
theorem d_M_overlaps_35 : decode b_M_overlaps 35 = .ok (.iconst 1, 1) := by decide +kernel
theorem d_M_overlaps_36 : decode b_M_overlaps 36 = .ok (.ireturn, 1) := by decide +kernel
theorem d_M_overlaps_37 : decode b_M_overlaps 37 = .ok (.iinc 3 1, 3) := by decide +kernel
theorem d_M_overlaps_40 : decode b_M_overlaps 40 = .ok (.goto (-38), 3) := by decide +kernel
theorem d_M_overlaps_43 : decode b_M_overlaps 43 = .ok (.iconst 0, 1) := by decide +kernel
theorem d_M_overlaps_44 : decode b_M_overlaps 44 = .ok (.ireturn, 1) := by decide +kernel
theorem d_M_isEntered_0 : decode b_M_isEntered 0 = .ok (.iconst 0, 1) := by decide +kernel
theorem d_M_isEntered_1 : decode b_M_isEntered 1 = .ok (.istore_n 3, 1) := by decide +kernel
theorem d_M_isEntered_2 : decode b_M_isEntered 2 = .ok (.iload_n 3, 1) := by decide +kernel
theorem d_M_isEntered_3 : decode b_M_isEntered 3 = .ok (.aload_n 0, 1) := by decide +kernel
theorem d_M_isEntered_4 : decode b_M_isEntered 4 = .ok (.getfield 33, 3) := by decide +kernel
theorem d_M_isEntered_7 : decode b_M_isEntered 7 = .ok (.if_icmp .ge 47, 3) := by decide +kernel
theorem d_M_isEntered_10 : decode b_M_isEntered 10 = .ok (.aload_n 0, 1) := by decide +kernel
theorem d_M_isEntered_11 : decode b_M_isEntered 11 = .ok (.getfield 13, 3) := by decide +kernel
theorem d_M_isEntered_14 : decode b_M_isEntered 14 = .ok (.iload_n 3, 1) := by decide +kernel
theorem d_M_isEntered_15 : decode b_M_isEntered 15 = .ok (.baload, 1) := by decide +kernel
theorem d_M_isEntered_16 : decode b_M_isEntered 16 = .ok (.ifCond .eq 11, 3) := by decide +kernel
theorem d_M_isEntered_19 : decode b_M_isEntered 19 = .ok (.aload_n 0, 1) := by decide +kernel
theorem d_M_isEntered_20 : decode b_M_isEntered 20 = .ok (.iload_n 3, 1) := by decide +kernel
theorem d_M_isEntered_21 : decode b_M_isEntered 21 = .ok (.invokevirtual 58, 3) := by decide +kernel
theorem d_M_isEntered_24 : decode b_M_isEntered 24 = .ok (.goto 6, 3) := by decide +kernel
theorem d_M_isEntered_27 : decode b_M_isEntered 27 = .ok (.sipush (-1000), 3) := by decide +kernel
theorem d_M_isEntered_30 : decode b_M_isEntered 30 = .ok (.istore 4, 2) := by decide +kernel
theorem d_M_isEntered_32 : decode b_M_isEntered 32 = .ok (.iload 4, 2) := by decide +kernel
theorem d_M_isEntered_34 : decode b_M_isEntered 34 = .ok (.iload_n 1, 1) := by decide +kernel
theorem d_M_isEntered_35 : decode b_M_isEntered 35 = .ok (.if_icmp .le 13, 3) := by decide +kernel
theorem d_M_isEntered_38 : decode b_M_isEntered 38 = .ok (.iload 4, 2) := by decide +kernel
theorem d_M_isEntered_40 : decode b_M_isEntered 40 = .ok (.iload_n 1, 1) := by decide +kernel
theorem d_M_isEntered_41 : decode b_M_isEntered 41 = .ok (.iload_n 2, 1) := by decide +kernel
theorem d_M_isEntered_42 : decode b_M_isEntered 42 = .ok (.iadd, 1) := by decide +kernel
theorem d_M_isEntered_43 : decode b_M_isEntered 43 = .ok (.if_icmp .ge 5, 3) := by decide +kernel
theorem d_M_isEntered_46 : decode b_M_isEntered 46 = .ok (.iconst 1, 1) := by decide +kernel
theorem d_M_isEntered_47 : decode b_M_isEntered 47 = .ok (.ireturn, 1) := by decide +kernel
theorem d_M_isEntered_48 : decode b_M_isEntered 48 = .ok (.iinc 3 1, 3) := by decide +kernel
theorem d_M_isEntered_51 : decode b_M_isEntered 51 = .ok (.goto (-49), 3) := by decide +kernel
theorem d_M_isEntered_54 : decode b_M_isEntered 54 = .ok (.iconst 0, 1) := by decide +kernel
theorem d_M_isEntered_55 : decode b_M_isEntered 55 = .ok (.ireturn, 1) := by decide +kernel
theorem d_M_targetOf_0 : decode b_M_targetOf 0 = .ok (.aload_n 0, 1) := by decide +kernel
theorem d_M_targetOf_1 : decode b_M_targetOf 1 = .ok (.getfield 7, 3) := by decide +kernel
theorem d_M_targetOf_4 : decode b_M_targetOf 4 = .ok (.iload_n 1, 1) := by decide +kernel
theorem d_M_targetOf_5 : decode b_M_targetOf 5 = .ok (.iaload, 1) := by decide +kernel
theorem d_M_targetOf_6 : decode b_M_targetOf 6 = .ok (.iconst 4, 1) := by decide +kernel
theorem d_M_targetOf_7 : decode b_M_targetOf 7 = .ok (.if_icmp .lt 14, 3) := by decide +kernel
theorem d_M_targetOf_10 : decode b_M_targetOf 10 = .ok (.aload_n 0, 1) := by decide +kernel
theorem d_M_targetOf_11 : decode b_M_targetOf 11 = .ok (.getfield 7, 3) := by decide +kernel
theorem d_M_targetOf_14 : decode b_M_targetOf 14 = .ok (.iload_n 1, 1) := by decide +kernel
theorem d_M_targetOf_15 : decode b_M_targetOf 15 = .ok (.iaload, 1) := by decide +kernel
theorem d_M_targetOf_16 : decode b_M_targetOf 16 = .ok (.bipush 6, 2) := by decide +kernel
theorem d_M_targetOf_18 : decode b_M_targetOf 18 = .ok (.if_icmp .le 7, 3) := by decide +kernel
theorem d_M_targetOf_21 : decode b_M_targetOf 21 = .ok (.sipush (-1000), 3) := by decide +kernel
theorem d_M_targetOf_24 : decode b_M_targetOf 24 = .ok (.ireturn, 1) := by decide +kernel
theorem d_M_targetOf_25 : decode b_M_targetOf 25 = .ok (.aload_n 0, 1) := by decide +kernel
theorem d_M_targetOf_26 : decode b_M_targetOf 26 = .ok (.iload_n 1, 1) := by decide +kernel
theorem d_M_targetOf_27 : decode b_M_targetOf 27 = .ok (.invokevirtual 51, 3) := by decide +kernel
theorem d_M_targetOf_30 : decode b_M_targetOf 30 = .ok (.istore_n 2, 1) := by decide +kernel
theorem d_M_targetOf_31 : decode b_M_targetOf 31 = .ok (.aload_n 0, 1) := by decide +kernel
theorem d_M_targetOf_32 : decode b_M_targetOf 32 = .ok (.getfield 7, 3) := by decide +kernel
theorem d_M_targetOf_35 : decode b_M_targetOf 35 = .ok (.iload_n 2, 1) := by decide +kernel
theorem d_M_targetOf_36 : decode b_M_targetOf 36 = .ok (.iconst 1, 1) := by decide +kernel
theorem d_M_targetOf_37 : decode b_M_targetOf 37 = .ok (.isub, 1) := by decide +kernel
theorem d_M_targetOf_38 : decode b_M_targetOf 38 = .ok (.iaload, 1) := by decide +kernel
theorem d_M_targetOf_39 : decode b_M_targetOf 39 = .ok (.istore_n 3, 1) := by decide +kernel
theorem d_M_targetOf_40 : decode b_M_targetOf 40 = .ok (.iload_n 2, 1) := by decide +kernel
theorem d_M_targetOf_41 : decode b_M_targetOf 41 = .ok (.iload_n 3, 1) := by decide +kernel
theorem d_M_targetOf_42 : decode b_M_targetOf 42 = .ok (.bipush 127, 2) := by decide +kernel
theorem d_M_targetOf_44 : decode b_M_targetOf 44 = .ok (.if_icmp .le 11, 3) := by decide +kernel
theorem d_M_targetOf_47 : decode b_M_targetOf 47 = .ok (.iload_n 3, 1) := by decide +kernel
theorem d_M_targetOf_48 : decode b_M_targetOf 48 = .ok (.sipush 256, 3) := by decide +kernel
theorem d_M_targetOf_51 : decode b_M_targetOf 51 = .ok (.isub, 1) := by decide +kernel
theorem d_M_targetOf_52 : decode b_M_targetOf 52 = .ok (.goto 4, 3) := by decide +kernel
theorem d_M_targetOf_55 : decode b_M_targetOf 55 = .ok (.iload_n 3, 1) := by decide +kernel
theorem d_M_targetOf_56 : decode b_M_targetOf 56 = .ok (.iadd, 1) := by decide +kernel
theorem d_M_targetOf_57 : decode b_M_targetOf 57 = .ok (.ireturn, 1) := by decide +kernel
theorem d_M_unhook_0 : decode b_M_unhook 0 = .ok (.iload_n 1, 1) := by decide +kernel
theorem d_M_unhook_1 : decode b_M_unhook 1 = .ok (.ifCond .lt 9, 3) := by decide +kernel
theorem d_M_unhook_4 : decode b_M_unhook 4 = .ok (.iload_n 1, 1) := by decide +kernel
theorem d_M_unhook_5 : decode b_M_unhook 5 = .ok (.bipush 63, 2) := by decide +kernel
theorem d_M_unhook_7 : decode b_M_unhook 7 = .ok (.if_icmp .le 5, 3) := by decide +kernel
theorem d_M_unhook_10 : decode b_M_unhook 10 = .ok (.iconst (-1), 1) := by decide +kernel
theorem d_M_unhook_11 : decode b_M_unhook 11 = .ok (.ireturn, 1) := by decide +kernel
theorem d_M_unhook_12 : decode b_M_unhook 12 = .ok (.aload_n 0, 1) := by decide +kernel
theorem d_M_unhook_13 : decode b_M_unhook 13 = .ok (.getfield 20, 3) := by decide +kernel
theorem d_M_unhook_16 : decode b_M_unhook 16 = .ok (.iload_n 1, 1) := by decide +kernel
theorem d_M_unhook_17 : decode b_M_unhook 17 = .ok (.baload, 1) := by decide +kernel
theorem d_M_unhook_18 : decode b_M_unhook 18 = .ok (.ifCond .ne 6, 3) := by decide +kernel
theorem d_M_unhook_21 : decode b_M_unhook 21 = .ok (.bipush (-3), 2) := by decide +kernel
theorem d_M_unhook_23 : decode b_M_unhook 23 = .ok (.ireturn, 1) := by decide +kernel
theorem d_M_unhook_24 : decode b_M_unhook 24 = .ok (.aload_n 0, 1) := by decide +kernel
theorem d_M_unhook_25 : decode b_M_unhook 25 = .ok (.getfield 20, 3) := by decide +kernel
theorem d_M_unhook_28 : decode b_M_unhook 28 = .ok (.iload_n 1, 1) := by decide +kernel
theorem d_M_unhook_29 : decode b_M_unhook 29 = .ok (.iconst 0, 1) := by decide +kernel
theorem d_M_unhook_30 : decode b_M_unhook 30 = .ok (.bastore, 1) := by decide +kernel
theorem d_M_unhook_31 : decode b_M_unhook 31 = .ok (.aload_n 0, 1) := by decide +kernel
theorem d_M_unhook_32 : decode b_M_unhook 32 = .ok (.getfield 23, 3) := by decide +kernel
theorem d_M_unhook_35 : decode b_M_unhook 35 = .ok (.iload_n 1, 1) := by decide +kernel
theorem d_M_unhook_36 : decode b_M_unhook 36 = .ok (.iaload, 1) := by decide +kernel
theorem d_M_unhook_37 : decode b_M_unhook 37 = .ok (.ireturn, 1) := by decide +kernel
theorem d_M_calls_0 : decode b_M_calls 0 = .ok (.iload_n 1, 1) := by decide +kernel
theorem d_M_calls_1 : decode b_M_calls 1 = .ok (.ifCond .lt 9, 3) := by decide +kernel
theorem d_M_calls_4 : decode b_M_calls 4 = .ok (.iload_n 1, 1) := by decide +kernel
theorem d_M_calls_5 : decode b_M_calls 5 = .ok (.bipush 63, 2) := by decide +kernel
theorem d_M_calls_7 : decode b_M_calls 7 = .ok (.if_icmp .le 5, 3) := by decide +kernel
theorem d_M_calls_10 : decode b_M_calls 10 = .ok (.iconst (-1), 1) := by decide +kernel
theorem d_M_calls_11 : decode b_M_calls 11 = .ok (.ireturn, 1) := by decide +kernel
theorem d_M_calls_12 : decode b_M_calls 12 = .ok (.aload_n 0, 1) := by decide +kernel
theorem d_M_calls_13 : decode b_M_calls 13 = .ok (.getfield 20, 3) := by decide +kernel
theorem d_M_calls_16 : decode b_M_calls 16 = .ok (.iload_n 1, 1) := by decide +kernel
theorem d_M_calls_17 : decode b_M_calls 17 = .ok (.baload, 1) := by decide +kernel
theorem d_M_calls_18 : decode b_M_calls 18 = .ok (.ifCond .eq 12, 3) := by decide +kernel
theorem d_M_calls_21 : decode b_M_calls 21 = .ok (.aload_n 0, 1) := by decide +kernel
theorem d_M_calls_22 : decode b_M_calls 22 = .ok (.getfield 23, 3) := by decide +kernel
theorem d_M_calls_25 : decode b_M_calls 25 = .ok (.iload_n 1, 1) := by decide +kernel
theorem d_M_calls_26 : decode b_M_calls 26 = .ok (.iaload, 1) := by decide +kernel
theorem d_M_calls_27 : decode b_M_calls 27 = .ok (.goto 5, 3) := by decide +kernel
theorem d_M_calls_30 : decode b_M_calls 30 = .ok (.bipush (-3), 2) := by decide +kernel
theorem d_M_calls_32 : decode b_M_calls 32 = .ok (.ireturn, 1) := by decide +kernel
theorem d_M_run_0 : decode b_M_run 0 = .ok (.iload_n 1, 1) := by decide +kernel
theorem d_M_run_1 : decode b_M_run 1 = .ok (.ifCond .lt 9, 3) := by decide +kernel
theorem d_M_run_4 : decode b_M_run 4 = .ok (.iload_n 1, 1) := by decide +kernel
theorem d_M_run_5 : decode b_M_run 5 = .ok (.bipush 63, 2) := by decide +kernel
theorem d_M_run_7 : decode b_M_run 7 = .ok (.if_icmp .le 5, 3) := by decide +kernel
theorem d_M_run_10 : decode b_M_run 10 = .ok (.iconst (-1), 1) := by decide +kernel
theorem d_M_run_11 : decode b_M_run 11 = .ok (.ireturn, 1) := by decide +kernel
theorem d_M_run_12 : decode b_M_run 12 = .ok (.aload_n 0, 1) := by decide +kernel
theorem d_M_run_13 : decode b_M_run 13 = .ok (.iload_n 1, 1) := by decide +kernel
theorem d_M_run_14 : decode b_M_run 14 = .ok (.putfield 68, 3) := by decide +kernel
theorem d_M_run_17 : decode b_M_run 17 = .ok (.aload_n 0, 1) := by decide +kernel
theorem d_M_run_18 : decode b_M_run 18 = .ok (.iconst 0, 1) := by decide +kernel
theorem d_M_run_19 : decode b_M_run 19 = .ok (.putfield 71, 3) := by decide +kernel
theorem d_M_run_22 : decode b_M_run 22 = .ok (.aload_n 0, 1) := by decide +kernel
theorem d_M_run_23 : decode b_M_run 23 = .ok (.iconst 0, 1) := by decide +kernel
theorem d_M_run_24 : decode b_M_run 24 = .ok (.putfield 81, 3) := by decide +kernel
theorem d_M_run_27 : decode b_M_run 27 = .ok (.aload_n 0, 1) := by decide +kernel
theorem d_M_run_28 : decode b_M_run 28 = .ok (.iconst 0, 1) := by decide +kernel
theorem d_M_run_29 : decode b_M_run 29 = .ok (.putfield 74, 3) := by decide +kernel
theorem d_M_run_32 : decode b_M_run 32 = .ok (.aload_n 0, 1) := by decide +kernel
theorem d_M_run_33 : decode b_M_run 33 = .ok (.getfield 81, 3) := by decide +kernel
theorem d_M_run_36 : decode b_M_run 36 = .ok (.sipush 200, 3) := by decide +kernel
theorem d_M_run_39 : decode b_M_run 39 = .ok (.if_icmp .ge 46, 3) := by decide +kernel
theorem d_M_run_42 : decode b_M_run 42 = .ok (.aload_n 0, 1) := by decide +kernel
theorem d_M_run_43 : decode b_M_run 43 = .ok (.getfield 74, 3) := by decide +kernel
theorem d_M_run_46 : decode b_M_run 46 = .ok (.ifCond .ne 39, 3) := by decide +kernel
theorem d_M_run_49 : decode b_M_run 49 = .ok (.aload_n 0, 1) := by decide +kernel
theorem d_M_run_50 : decode b_M_run 50 = .ok (.aload_n 0, 1) := by decide +kernel
theorem d_M_run_51 : decode b_M_run 51 = .ok (.getfield 68, 3) := by decide +kernel
theorem d_M_run_54 : decode b_M_run 54 = .ok (.invokevirtual 48, 3) := by decide +kernel
theorem d_M_run_57 : decode b_M_run 57 = .ok (.ifCond .eq 20, 3) := by decide +kernel
theorem d_M_run_60 : decode b_M_run 60 = .ok (.aload_n 0, 1) := by decide +kernel
theorem d_M_run_61 : decode b_M_run 61 = .ok (.invokevirtual 84, 3) := by decide +kernel
theorem d_M_run_64 : decode b_M_run 64 = .ok (.aload_n 0, 1) := by decide +kernel
theorem d_M_run_65 : decode b_M_run 65 = .ok (.dup, 1) := by decide +kernel
theorem d_M_run_66 : decode b_M_run 66 = .ok (.getfield 81, 3) := by decide +kernel
theorem d_M_run_69 : decode b_M_run 69 = .ok (.iconst 1, 1) := by decide +kernel
theorem d_M_run_70 : decode b_M_run 70 = .ok (.iadd, 1) := by decide +kernel
theorem d_M_run_71 : decode b_M_run 71 = .ok (.putfield 81, 3) := by decide +kernel
theorem d_M_run_74 : decode b_M_run 74 = .ok (.goto (-42), 3) := by decide +kernel
theorem d_M_run_77 : decode b_M_run 77 = .ok (.aload_n 0, 1) := by decide +kernel
theorem d_M_run_78 : decode b_M_run 78 = .ok (.iconst 2, 1) := by decide +kernel
theorem d_M_run_79 : decode b_M_run 79 = .ok (.putfield 74, 3) := by decide +kernel
theorem d_M_run_82 : decode b_M_run 82 = .ok (.goto (-50), 3) := by decide +kernel
theorem d_M_run_85 : decode b_M_run 85 = .ok (.aload_n 0, 1) := by decide +kernel
theorem d_M_run_86 : decode b_M_run 86 = .ok (.getfield 74, 3) := by decide +kernel
theorem d_M_run_89 : decode b_M_run 89 = .ok (.ifCond .ne 8, 3) := by decide +kernel
theorem d_M_run_92 : decode b_M_run 92 = .ok (.aload_n 0, 1) := by decide +kernel
theorem d_M_run_93 : decode b_M_run 93 = .ok (.iconst 4, 1) := by decide +kernel
theorem d_M_run_94 : decode b_M_run 94 = .ok (.putfield 74, 3) := by decide +kernel
theorem d_M_run_97 : decode b_M_run 97 = .ok (.aload_n 0, 1) := by decide +kernel
theorem d_M_run_98 : decode b_M_run 98 = .ok (.getfield 74, 3) := by decide +kernel
theorem d_M_run_101 : decode b_M_run 101 = .ok (.ireturn, 1) := by decide +kernel
theorem d_M_execute_0 : decode b_M_execute 0 = .ok (.aload_n 0, 1) := by decide +kernel
theorem d_M_execute_1 : decode b_M_execute 1 = .ok (.getfield 20, 3) := by decide +kernel
theorem d_M_execute_4 : decode b_M_execute 4 = .ok (.aload_n 0, 1) := by decide +kernel
theorem d_M_execute_5 : decode b_M_execute 5 = .ok (.getfield 68, 3) := by decide +kernel
theorem d_M_execute_8 : decode b_M_execute 8 = .ok (.baload, 1) := by decide +kernel
theorem d_M_execute_9 : decode b_M_execute 9 = .ok (.ifCond .eq 16, 3) := by decide +kernel
theorem d_M_execute_12 : decode b_M_execute 12 = .ok (.aload_n 0, 1) := by decide +kernel
theorem d_M_execute_13 : decode b_M_execute 13 = .ok (.getfield 23, 3) := by decide +kernel
theorem d_M_execute_16 : decode b_M_execute 16 = .ok (.aload_n 0, 1) := by decide +kernel
theorem d_M_execute_17 : decode b_M_execute 17 = .ok (.getfield 68, 3) := by decide +kernel
theorem d_M_execute_20 : decode b_M_execute 20 = .ok (.dup2, 1) := by decide +kernel
theorem d_M_execute_21 : decode b_M_execute 21 = .ok (.iaload, 1) := by decide +kernel
theorem d_M_execute_22 : decode b_M_execute 22 = .ok (.iconst 1, 1) := by decide +kernel
theorem d_M_execute_23 : decode b_M_execute 23 = .ok (.iadd, 1) := by decide +kernel
theorem d_M_execute_24 : decode b_M_execute 24 = .ok (.iastore, 1) := by decide +kernel
theorem d_M_execute_25 : decode b_M_execute 25 = .ok (.aload_n 0, 1) := by decide +kernel
theorem d_M_execute_26 : decode b_M_execute 26 = .ok (.getfield 7, 3) := by decide +kernel
theorem d_M_execute_29 : decode b_M_execute 29 = .ok (.aload_n 0, 1) := by decide +kernel
theorem d_M_execute_30 : decode b_M_execute 30 = .ok (.getfield 68, 3) := by decide +kernel
theorem d_M_execute_33 : decode b_M_execute 33 = .ok (.iaload, 1) := by decide +kernel
theorem d_M_execute_34 : decode b_M_execute 34 = .ok (.istore_n 1, 1) := by decide +kernel
theorem d_M_execute_35 : decode b_M_execute 35 = .ok (.aload_n 0, 1) := by decide +kernel
theorem d_M_execute_36 : decode b_M_execute 36 = .ok (.aload_n 0, 1) := by decide +kernel
theorem d_M_execute_37 : decode b_M_execute 37 = .ok (.getfield 68, 3) := by decide +kernel
theorem d_M_execute_40 : decode b_M_execute 40 = .ok (.invokevirtual 51, 3) := by decide +kernel
theorem d_M_execute_43 : decode b_M_execute 43 = .ok (.istore_n 2, 1) := by decide +kernel
theorem d_M_execute_44 : decode b_M_execute 44 = .ok (.iload_n 2, 1) := by decide +kernel
theorem d_M_execute_45 : decode b_M_execute 45 = .ok (.aload_n 0, 1) := by decide +kernel
theorem d_M_execute_46 : decode b_M_execute 46 = .ok (.getfield 68, 3) := by decide +kernel
theorem d_M_execute_49 : decode b_M_execute 49 = .ok (.isub, 1) := by decide +kernel
theorem d_M_execute_50 : decode b_M_execute 50 = .ok (.iconst 1, 1) := by decide +kernel
theorem d_M_execute_51 : decode b_M_execute 51 = .ok (.if_icmp .ne 7, 3) := by decide +kernel
theorem d_M_execute_54 : decode b_M_execute 54 = .ok (.iconst 0, 1) := by decide +kernel
theorem d_M_execute_55 : decode b_M_execute 55 = .ok (.goto 14, 3) := by decide +kernel
theorem d_M_execute_58 : decode b_M_execute 58 = .ok (.aload_n 0, 1) := by decide +kernel
theorem d_M_execute_59 : decode b_M_execute 59 = .ok (.getfield 7, 3) := by decide +kernel
theorem d_M_execute_62 : decode b_M_execute 62 = .ok (.aload_n 0, 1) := by decide +kernel
theorem d_M_execute_63 : decode b_M_execute 63 = .ok (.getfield 68, 3) := by decide +kernel
theorem d_M_execute_66 : decode b_M_execute 66 = .ok (.iconst 1, 1) := by decide +kernel
theorem d_M_execute_67 : decode b_M_execute 67 = .ok (.iadd, 1) := by decide +kernel
theorem d_M_execute_68 : decode b_M_execute 68 = .ok (.iaload, 1) := by decide +kernel
theorem d_M_execute_69 : decode b_M_execute 69 = .ok (.istore_n 3, 1) := by decide +kernel
theorem d_M_execute_70 : decode b_M_execute 70 = .ok (.iload_n 3, 1) := by decide +kernel
theorem d_M_execute_71 : decode b_M_execute 71 = .ok (.iconst 3, 1) := by decide +kernel
theorem d_M_execute_72 : decode b_M_execute 72 = .ok (.iand, 1) := by decide +kernel
theorem d_M_execute_73 : decode b_M_execute 73 = .ok (.istore 4, 2) := by decide +kernel
theorem d_M_execute_75 : decode b_M_execute 75 = .ok (.iload_n 1, 1) := by decide +kernel
theorem d_M_execute_76 : decode b_M_execute 76 = .ok (.iconst 1, 1) := by decide +kernel
theorem d_M_execute_77 : decode b_M_execute 77 = .ok (.if_icmp .ne 22, 3) := by decide +kernel
theorem d_M_execute_80 : decode b_M_execute 80 = .ok (.aload_n 0, 1) := by decide +kernel
theorem d_M_execute_81 : decode b_M_execute 81 = .ok (.getfield 17, 3) := by decide +kernel
theorem d_M_execute_84 : decode b_M_execute 84 = .ok (.iload 4, 2) := by decide +kernel
theorem d_M_execute_86 : decode b_M_execute 86 = .ok (.aload_n 0, 1) := by decide +kernel
theorem d_M_execute_87 : decode b_M_execute 87 = .ok (.getfield 17, 3) := by decide +kernel
theorem d_M_execute_90 : decode b_M_execute 90 = .ok (.iload 4, 2) := by decide +kernel
theorem d_M_execute_92 : decode b_M_execute 92 = .ok (.iaload, 1) := by decide +kernel
theorem d_M_execute_93 : decode b_M_execute 93 = .ok (.iconst 1, 1) := by decide +kernel
theorem d_M_execute_94 : decode b_M_execute 94 = .ok (.iadd, 1) := by decide +kernel
theorem d_M_execute_95 : decode b_M_execute 95 = .ok (.iastore, 1) := by decide +kernel
theorem d_M_execute_96 : decode b_M_execute 96 = .ok (.goto 64, 3) := by decide +kernel
theorem d_M_execute_99 : decode b_M_execute 99 = .ok (.iload_n 1, 1) := by decide +kernel
theorem d_M_execute_100 : decode b_M_execute 100 = .ok (.iconst 2, 1) := by decide +kernel
theorem d_M_execute_101 : decode b_M_execute 101 = .ok (.if_icmp .ne 22, 3) := by decide +kernel
theorem d_M_execute_104 : decode b_M_execute 104 = .ok (.aload_n 0, 1) := by decide +kernel
theorem d_M_execute_105 : decode b_M_execute 105 = .ok (.getfield 17, 3) := by decide +kernel
theorem d_M_execute_108 : decode b_M_execute 108 = .ok (.iload 4, 2) := by decide +kernel
theorem d_M_execute_110 : decode b_M_execute 110 = .ok (.aload_n 0, 1) := by decide +kernel
theorem d_M_execute_111 : decode b_M_execute 111 = .ok (.getfield 17, 3) := by decide +kernel
theorem d_M_execute_114 : decode b_M_execute 114 = .ok (.iload 4, 2) := by decide +kernel
theorem d_M_execute_116 : decode b_M_execute 116 = .ok (.iaload, 1) := by decide +kernel
theorem d_M_execute_117 : decode b_M_execute 117 = .ok (.iconst 1, 1) := by decide +kernel
theorem d_M_execute_118 : decode b_M_execute 118 = .ok (.isub, 1) := by decide +kernel
theorem d_M_execute_119 : decode b_M_execute 119 = .ok (.iastore, 1) := by decide +kernel
theorem d_M_execute_120 : decode b_M_execute 120 = .ok (.goto 40, 3) := by decide +kernel
theorem d_M_execute_123 : decode b_M_execute 123 = .ok (.iload_n 1, 1) := by decide +kernel
theorem d_M_execute_124 : decode b_M_execute 124 = .ok (.iconst 3, 1) := by decide +kernel
theorem d_M_execute_125 : decode b_M_execute 125 = .ok (.if_icmp .ne 21, 3) := by decide +kernel
theorem d_M_execute_128 : decode b_M_execute 128 = .ok (.aload_n 0, 1) := by decide +kernel
theorem d_M_execute_129 : decode b_M_execute 129 = .ok (.getfield 17, 3) := by decide +kernel
theorem d_M_execute_132 : decode b_M_execute 132 = .ok (.iload 4, 2) := by decide +kernel
theorem d_M_execute_134 : decode b_M_execute 134 = .ok (.aload_n 0, 1) := by decide +kernel
theorem d_M_execute_135 : decode b_M_execute 135 = .ok (.getfield 17, 3) := by decide +kernel
theorem d_M_execute_138 : decode b_M_execute 138 = .ok (.iload_n 3, 1) := by decide +kernel
theorem d_M_execute_139 : decode b_M_execute 139 = .ok (.iconst 2, 1) := by decide +kernel
theorem d_M_execute_140 : decode b_M_execute 140 = .ok (.ishr, 1) := by decide +kernel
theorem d_M_execute_141 : decode b_M_execute 141 = .ok (.iaload, 1) := by decide +kernel
theorem d_M_execute_142 : decode b_M_execute 142 = .ok (.iastore, 1) := by decide +kernel
theorem d_M_execute_143 : decode b_M_execute 143 = .ok (.goto 17, 3) := by decide +kernel
theorem d_M_execute_146 : decode b_M_execute 146 = .ok (.iload_n 1, 1) := by decide +kernel
theorem d_M_execute_147 : decode b_M_execute 147 = .ok (.bipush 8, 2) := by decide +kernel
theorem d_M_execute_149 : decode b_M_execute 149 = .ok (.if_icmp .ne 11, 3) := by decide +kernel
theorem d_M_execute_152 : decode b_M_execute 152 = .ok (.aload_n 0, 1) := by decide +kernel
theorem d_M_execute_153 : decode b_M_execute 153 = .ok (.getfield 17, 3) := by decide +kernel
theorem d_M_execute_156 : decode b_M_execute 156 = .ok (.iload 4, 2) := by decide +kernel
theorem d_M_execute_158 : decode b_M_execute 158 = .ok (.iload_n 2, 1) := by decide +kernel
theorem d_M_execute_159 : decode b_M_execute 159 = .ok (.iastore, 1) := by decide +kernel
theorem d_M_execute_160 : decode b_M_execute 160 = .ok (.aload_n 0, 1) := by decide +kernel
theorem d_M_execute_161 : decode b_M_execute 161 = .ok (.iload_n 1, 1) := by decide +kernel
theorem d_M_execute_162 : decode b_M_execute 162 = .ok (.iload_n 2, 1) := by decide +kernel
theorem d_M_execute_163 : decode b_M_execute 163 = .ok (.invokevirtual 77, 3) := by decide +kernel
theorem d_M_execute_166 : decode b_M_execute 166 = .ok (.return_, 1) := by decide +kernel
theorem d_M_goOn_0 : decode b_M_goOn 0 = .ok (.aload_n 0, 1) := by decide +kernel
theorem d_M_goOn_1 : decode b_M_goOn 1 = .ok (.aload_n 0, 1) := by decide +kernel
theorem d_M_goOn_2 : decode b_M_goOn 2 = .ok (.getfield 68, 3) := by decide +kernel
theorem d_M_goOn_5 : decode b_M_goOn 5 = .ok (.invokevirtual 58, 3) := by decide +kernel
theorem d_M_goOn_8 : decode b_M_goOn 8 = .ok (.istore_n 3, 1) := by decide +kernel
theorem d_M_goOn_9 : decode b_M_goOn 9 = .ok (.iload_n 1, 1) := by decide +kernel
theorem d_M_goOn_10 : decode b_M_goOn 10 = .ok (.ifCond .eq 16, 3) := by decide +kernel
theorem d_M_goOn_13 : decode b_M_goOn 13 = .ok (.iload_n 1, 1) := by decide +kernel
theorem d_M_goOn_14 : decode b_M_goOn 14 = .ok (.bipush 7, 2) := by decide +kernel
theorem d_M_goOn_16 : decode b_M_goOn 16 = .ok (.if_icmp .ne 18, 3) := by decide +kernel
theorem d_M_goOn_19 : decode b_M_goOn 19 = .ok (.aload_n 0, 1) := by decide +kernel
theorem d_M_goOn_20 : decode b_M_goOn 20 = .ok (.getfield 71, 3) := by decide +kernel
theorem d_M_goOn_23 : decode b_M_goOn 23 = .ok (.ifCond .ne 11, 3) := by decide +kernel
theorem d_M_goOn_26 : decode b_M_goOn 26 = .ok (.aload_n 0, 1) := by decide +kernel
theorem d_M_goOn_27 : decode b_M_goOn 27 = .ok (.iconst 1, 1) := by decide +kernel
theorem d_M_goOn_28 : decode b_M_goOn 28 = .ok (.putfield 74, 3) := by decide +kernel
theorem d_M_goOn_31 : decode b_M_goOn 31 = .ok (.goto 142, 3) := by decide +kernel
theorem d_M_goOn_34 : decode b_M_goOn 34 = .ok (.iload_n 1, 1) := by decide +kernel
theorem d_M_goOn_35 : decode b_M_goOn 35 = .ok (.bipush 7, 2) := by decide +kernel
theorem d_M_goOn_37 : decode b_M_goOn 37 = .ok (.if_icmp .ne 29, 3) := by decide +kernel
theorem d_M_goOn_40 : decode b_M_goOn 40 = .ok (.aload_n 0, 1) := by decide +kernel
theorem d_M_goOn_41 : decode b_M_goOn 41 = .ok (.dup, 1) := by decide +kernel
theorem d_M_goOn_42 : decode b_M_goOn 42 = .ok (.getfield 71, 3) := by decide +kernel
theorem d_M_goOn_45 : decode b_M_goOn 45 = .ok (.iconst 1, 1) := by decide +kernel
theorem d_M_goOn_46 : decode b_M_goOn 46 = .ok (.isub, 1) := by decide +kernel
theorem d_M_goOn_47 : decode b_M_goOn 47 = .ok (.putfield 71, 3) := by decide +kernel
theorem d_M_goOn_50 : decode b_M_goOn 50 = .ok (.aload_n 0, 1) := by decide +kernel
theorem d_M_goOn_51 : decode b_M_goOn 51 = .ok (.aload_n 0, 1) := by decide +kernel
theorem d_M_goOn_52 : decode b_M_goOn 52 = .ok (.getfield 26, 3) := by decide +kernel
theorem d_M_goOn_55 : decode b_M_goOn 55 = .ok (.aload_n 0, 1) := by decide +kernel
theorem d_M_goOn_56 : decode b_M_goOn 56 = .ok (.getfield 71, 3) := by decide +kernel
theorem d_M_goOn_59 : decode b_M_goOn 59 = .ok (.iaload, 1) := by decide +kernel
theorem d_M_goOn_60 : decode b_M_goOn 60 = .ok (.putfield 68, 3) := by decide +kernel
theorem d_M_goOn_63 : decode b_M_goOn 63 = .ok (.goto 110, 3) := by decide +kernel
theorem d_M_goOn_66 : decode b_M_goOn 66 = .ok (.iload_n 1, 1) := by decide +kernel
theorem d_M_goOn_67 : decode b_M_goOn 67 = .ok (.bipush 6, 2) := by decide +kernel
theorem d_M_goOn_69 : decode b_M_goOn 69 = .ok (.if_icmp .ne 20, 3) := by decide +kernel
theorem d_M_goOn_72 : decode b_M_goOn 72 = .ok (.aload_n 0, 1) := by decide +kernel
theorem d_M_goOn_73 : decode b_M_goOn 73 = .ok (.getfield 71, 3) := by decide +kernel
theorem d_M_goOn_76 : decode b_M_goOn 76 = .ok (.bipush 8, 2) := by decide +kernel
theorem d_M_goOn_78 : decode b_M_goOn 78 = .ok (.if_icmp .ne 11, 3) := by decide +kernel
theorem d_M_goOn_81 : decode b_M_goOn 81 = .ok (.aload_n 0, 1) := by decide +kernel
theorem d_M_goOn_82 : decode b_M_goOn 82 = .ok (.iconst 3, 1) := by decide +kernel
theorem d_M_goOn_83 : decode b_M_goOn 83 = .ok (.putfield 74, 3) := by decide +kernel
theorem d_M_goOn_86 : decode b_M_goOn 86 = .ok (.goto 87, 3) := by decide +kernel
theorem d_M_goOn_89 : decode b_M_goOn 89 = .ok (.iload_n 1, 1) := by decide +kernel
theorem d_M_goOn_90 : decode b_M_goOn 90 = .ok (.bipush 6, 2) := by decide +kernel
theorem d_M_goOn_92 : decode b_M_goOn 92 = .ok (.if_icmp .ne 31, 3) := by decide +kernel
theorem d_M_goOn_95 : decode b_M_goOn 95 = .ok (.aload_n 0, 1) := by decide +kernel
theorem d_M_goOn_96 : decode b_M_goOn 96 = .ok (.getfield 26, 3) := by decide +kernel
theorem d_M_goOn_99 : decode b_M_goOn 99 = .ok (.aload_n 0, 1) := by decide +kernel
theorem d_M_goOn_100 : decode b_M_goOn 100 = .ok (.getfield 71, 3) := by decide +kernel
theorem d_M_goOn_103 : decode b_M_goOn 103 = .ok (.iload_n 2, 1) := by decide +kernel
theorem d_M_goOn_104 : decode b_M_goOn 104 = .ok (.iastore, 1) := by decide +kernel
theorem d_M_goOn_105 : decode b_M_goOn 105 = .ok (.aload_n 0, 1) := by decide +kernel
theorem d_M_goOn_106 : decode b_M_goOn 106 = .ok (.dup, 1) := by decide +kernel
theorem d_M_goOn_107 : decode b_M_goOn 107 = .ok (.getfield 71, 3) := by decide +kernel
theorem d_M_goOn_110 : decode b_M_goOn 110 = .ok (.iconst 1, 1) := by decide +kernel
theorem d_M_goOn_111 : decode b_M_goOn 111 = .ok (.iadd, 1) := by decide +kernel
theorem d_M_goOn_112 : decode b_M_goOn 112 = .ok (.putfield 71, 3) := by decide +kernel
theorem d_M_goOn_115 : decode b_M_goOn 115 = .ok (.aload_n 0, 1) := by decide +kernel
theorem d_M_goOn_116 : decode b_M_goOn 116 = .ok (.iload_n 3, 1) := by decide +kernel
theorem d_M_goOn_117 : decode b_M_goOn 117 = .ok (.putfield 68, 3) := by decide +kernel
theorem d_M_goOn_120 : decode b_M_goOn 120 = .ok (.goto 53, 3) := by decide +kernel
theorem d_M_goOn_123 : decode b_M_goOn 123 = .ok (.iload_n 1, 1) := by decide +kernel
theorem d_M_goOn_124 : decode b_M_goOn 124 = .ok (.iconst 5, 1) := by decide +kernel
theorem d_M_goOn_125 : decode b_M_goOn 125 = .ok (.if_icmp .ne 34, 3) := by decide +kernel
theorem d_M_goOn_128 : decode b_M_goOn 128 = .ok (.aload_n 0, 1) := by decide +kernel
theorem d_M_goOn_129 : decode b_M_goOn 129 = .ok (.aload_n 0, 1) := by decide +kernel
theorem d_M_goOn_130 : decode b_M_goOn 130 = .ok (.getfield 17, 3) := by decide +kernel
theorem d_M_goOn_133 : decode b_M_goOn 133 = .ok (.aload_n 0, 1) := by decide +kernel
theorem d_M_goOn_134 : decode b_M_goOn 134 = .ok (.getfield 7, 3) := by decide +kernel
theorem d_M_goOn_137 : decode b_M_goOn 137 = .ok (.aload_n 0, 1) := by decide +kernel
theorem d_M_goOn_138 : decode b_M_goOn 138 = .ok (.getfield 68, 3) := by decide +kernel
theorem d_M_goOn_141 : decode b_M_goOn 141 = .ok (.iconst 1, 1) := by decide +kernel
theorem d_M_goOn_142 : decode b_M_goOn 142 = .ok (.iadd, 1) := by decide +kernel
theorem d_M_goOn_143 : decode b_M_goOn 143 = .ok (.iaload, 1) := by decide +kernel
theorem d_M_goOn_144 : decode b_M_goOn 144 = .ok (.iaload, 1) := by decide +kernel
theorem d_M_goOn_145 : decode b_M_goOn 145 = .ok (.ifCond .eq 7, 3) := by decide +kernel
theorem d_M_goOn_148 : decode b_M_goOn 148 = .ok (.iload_n 3, 1) := by decide +kernel
theorem d_M_goOn_149 : decode b_M_goOn 149 = .ok (.goto 4, 3) := by decide +kernel
theorem d_M_goOn_152 : decode b_M_goOn 152 = .ok (.iload_n 2, 1) := by decide +kernel
theorem d_M_goOn_153 : decode b_M_goOn 153 = .ok (.putfield 68, 3) := by decide +kernel
theorem d_M_goOn_156 : decode b_M_goOn 156 = .ok (.goto 17, 3) := by decide +kernel
theorem d_M_goOn_159 : decode b_M_goOn 159 = .ok (.aload_n 0, 1) := by decide +kernel
theorem d_M_goOn_160 : decode b_M_goOn 160 = .ok (.iload_n 1, 1) := by decide +kernel
theorem d_M_goOn_161 : decode b_M_goOn 161 = .ok (.iconst 4, 1) := by decide +kernel
theorem d_M_goOn_162 : decode b_M_goOn 162 = .ok (.if_icmp .ne 7, 3) := by decide +kernel
theorem d_M_goOn_165 : decode b_M_goOn 165 = .ok (.iload_n 3, 1) := by decide +kernel
theorem d_M_goOn_166 : decode b_M_goOn 166 = .ok (.goto 4, 3) := by decide +kernel
theorem d_M_goOn_169 : decode b_M_goOn 169 = .ok (.iload_n 2, 1) := by decide +kernel
theorem d_M_goOn_170 : decode b_M_goOn 170 = .ok (.putfield 68, 3) := by decide +kernel
theorem d_M_goOn_173 : decode b_M_goOn 173 = .ok (.return_, 1) := by decide +kernel
theorem d_M_ending_0 : decode b_M_ending 0 = .ok (.aload_n 0, 1) := by decide +kernel
theorem d_M_ending_1 : decode b_M_ending 1 = .ok (.getfield 74, 3) := by decide +kernel
theorem d_M_ending_4 : decode b_M_ending 4 = .ok (.ireturn, 1) := by decide +kernel
theorem d_M_executed_0 : decode b_M_executed 0 = .ok (.aload_n 0, 1) := by decide +kernel
theorem d_M_executed_1 : decode b_M_executed 1 = .ok (.getfield 81, 3) := by decide +kernel
theorem d_M_executed_4 : decode b_M_executed 4 = .ok (.ireturn, 1) := by decide +kernel
end
section
theorem vp_of {i : Int32} {n : Nat} (N : Int32) (hN : N.toInt = n) (h0 : ¬ i < 0) (h : i < N) : vp_in i n := by
  rw [vp_in_iff]
  rw [Int32.lt_iff_toInt_lt] at h0 h
  rw [hN] at h
  have : (0 : Int32).toInt = 0 := rfl
  omega
theorem vp_and3 (x : Int32) : vp_in (x &&& 3) 4 := pk_andIn x 2 rfl (by decide)
theorem PW_L {K : MD} {r : Option Int32} {τ σ : SG2} {pc : Nat} {L L2 : List (Option PV)} {st : List PV} (e : L = L2) (h : PW K r τ pc L2 st σ) : PW K r τ pc L st σ := e ▸ h
theorem PW_v {K : MD} {r : Option Int32} {τ σ : SG2} {pc : Nat} {st : List PV} (f : Int32 → List (Option PV)) {x y : Int32} (e : y = x) (h : PW K r τ pc (f y) st σ) : PW K r τ pc (f x) st σ := e ▸ h
theorem nI_3le {k : Nat} (hk : k < 1000) (N : Nat) (hN : N < 1000) (h : ¬ nI N ≤ nI k) : k < N := Nat.not_le.mp (fun q => h ((nI_leI (by omega) (by omega)).mpr q))
theorem PW_S {K : MD} {r : Option Int32} {τ σ σ2 : SG2} {pc : Nat} {L : List (Option PV)} {st : List PV} (e : σ = σ2) (h : PW K r τ pc L st σ2) : PW K r τ pc L st σ := e ▸ h
def ln (k : Int32) : Nat := if k = 0 then 1 else if k = 7 then 1 else if k = 5 then 3 else 2
theorem ln_in (k : Int32) : 1 ≤ ln k ∧ ln k ≤ 3 := by unfold ln; split <;> (try split) <;> (try split) <;> omega
def f_badReg (r : Int32) : Int32 := if r < 0 then 1 else if r ≤ 3 then 0 else 1
def f_badTarget (t : Int32) : Int32 := if t < -128 then 1 else if t ≤ 127 then 0 else 1
def f_asByte (t : Int32) : Int32 := if 0 ≤ t then t else t + 256
def f_signed (b : Int32) : Int32 := if b ≤ 127 then b else b - 256
def em (σ : SG) (n : Nat) (b : Int32) : SG := ss (ss (ss (ss σ 1 n b) 2 n b) 3 n 0) 0 0 (nI (n + 1))
def f_put (σ : SG) (w : Nat) (b : Int32) : SG := ss (ss σ 5 w b) 0 6 (nI (w + 1))
def f_isStart (σ : SG) (a : Int32) : Int32 := if a < 0 then 0 else if σ 0 0 ≤ a then 0 else if σ 3 a.toNatClampNeg = 0 then 0 else 1
def f_fetch (σ : SG) (x : Int32) : Int32 := if x < 512 then (if x < 0 then 255 else if 64 ≤ x then 255 else σ 2 x.toNatClampNeg) else (if 64 ≤ x - 512 then 255 else σ 5 (x - 512).toNatClampNeg)
def f_peek (σ : SG) (x : Int32) : Int32 := if x < 0 then -1 else if x < σ 0 0 then σ 1 x.toNatClampNeg else -1
def f_enter (σ : SG) (back target : Int32) : SG := if σ 0 11 = 8 then ss σ 0 15 3 else ss (ss (ss σ 12 (σ 0 11).toNatClampNeg back) 0 11 (σ 0 11 + 1)) 0 13 target
def f_leave (σ : SG) : SG := if σ 0 11 = 0 then ss σ 0 15 1 else ss (ss σ 0 11 (σ 0 11 - 1)) 0 13 (σ 12 (σ 0 11 - 1).toNatClampNeg)
def f_change (σ : SG) (kind r second next : Int32) : SG := if kind = 1 then ss σ 10 r.toNatClampNeg (σ 10 r.toNatClampNeg + 1) else if kind = 2 then ss σ 10 r.toNatClampNeg (σ 10 r.toNatClampNeg - 1) else if kind = 3 then ss σ 10 r.toNatClampNeg (σ 10 (second >>> ((2 : Int32) &&& 31) &&& 3).toNatClampNeg) else ss σ 10 r.toNatClampNeg next
def m_isRegister (r : Int32) : Int32 := if r < 0 then 0 else if 3 < r then 0 else 1
def m_isTarget (t : Int32) : Int32 := if t < -128 then 0 else if 127 < t then 0 else 1
def m_starts (μ : SG) (x : Int32) : Int32 := if x < 0 then 0 else if μ 16 2 ≤ x then 0 else if μ 18 x.toNatClampNeg = 0 then 0 else 1
def m_peek (μ : SG) (x : Int32) : Int32 := if x < 0 then -1 else if x < μ 16 2 then μ 17 x.toNatClampNeg else -1
def m_calls (μ : SG) (a : Int32) : Int32 := if a < 0 then -1 else if a ≤ 63 then (if μ 21 a.toNatClampNeg = 0 then -3 else μ 22 a.toNatClampNeg) else -1
def m_unhookR (μ : SG) (a : Int32) : Int32 := if a < 0 then -1 else if a ≤ 63 then (if μ 21 a.toNatClampNeg = 0 then -3 else μ 22 a.toNatClampNeg) else -1
def m_unhookS (μ : SG) (a : Int32) : SG := if a < 0 then μ else if a ≤ 63 then (if μ 21 a.toNatClampNeg = 0 then μ else ss μ 21 a.toNatClampNeg 0) else μ
set_option maxHeartbeats 400000 in
set_option maxRecDepth 10000 in
theorem c_H_badReg (σ μ : SG) (r : Int32) : CF k_H_badReg [.inr 0, .inl r] (σ, μ) (some (f_badReg r)) (σ, μ) := by
  refine CF.of rfl rfl (Nat.le_of_ble_eq_true rfl) (L := [some (.inr 0), some (.inl r)]) rfl ?_
  refine P_iload_n d_H_badReg_0 rfl ?_
  refine P_if_lt 9 d_H_badReg_1 (by decide) (fun c1 => ?_) (fun c1 => ?_)
  · refine P_iconst (v := 1) d_H_badReg_9 (by decide) ?_
    refine P_goto 14 d_H_badReg_10 (by decide) ?_
    exact P_zret d_H_badReg_14 (by decide) (by simp [f_badReg, *]) (by rfl)
  · refine P_iload_n d_H_badReg_4 rfl ?_
    refine P_iconst (v := 3) d_H_badReg_5 (by decide) ?_
    refine P_icmp_le 13 d_H_badReg_6 (by decide) (fun c6 => ?_) (fun c6 => ?_)
    · refine P_iconst (v := 0) d_H_badReg_13 (by decide) ?_
      exact P_zret d_H_badReg_14 (by decide) (by simp [f_badReg, *]) (by rfl)
    · refine P_iconst (v := 1) d_H_badReg_9 (by decide) ?_
      refine P_goto 14 d_H_badReg_10 (by decide) ?_
      exact P_zret d_H_badReg_14 (by decide) (by simp [f_badReg, *]) (by rfl)
set_option maxHeartbeats 400000 in
set_option maxRecDepth 10000 in
theorem c_H_badTarget (σ μ : SG) (t : Int32) : CF k_H_badTarget [.inr 0, .inl t] (σ, μ) (some (f_badTarget t)) (σ, μ) := by
  refine CF.of rfl rfl (Nat.le_of_ble_eq_true rfl) (L := [some (.inr 0), some (.inl t)]) rfl ?_
  refine P_iload_n d_H_badTarget_0 rfl ?_
  refine P_bipush (v := (-128)) d_H_badTarget_1 (by decide) ?_
  refine P_icmp_lt 12 d_H_badTarget_3 (by decide) (fun c3 => ?_) (fun c3 => ?_)
  · refine P_iconst (v := 1) d_H_badTarget_12 (by decide) ?_
    refine P_goto 17 d_H_badTarget_13 (by decide) ?_
    exact P_zret d_H_badTarget_17 (by decide) (by simp [f_badTarget, *]) (by rfl)
  · refine P_iload_n d_H_badTarget_6 rfl ?_
    refine P_bipush (v := 127) d_H_badTarget_7 (by decide) ?_
    refine P_icmp_le 16 d_H_badTarget_9 (by decide) (fun c9 => ?_) (fun c9 => ?_)
    · refine P_iconst (v := 0) d_H_badTarget_16 (by decide) ?_
      exact P_zret d_H_badTarget_17 (by decide) (by simp [f_badTarget, *]) (by rfl)
    · refine P_iconst (v := 1) d_H_badTarget_12 (by decide) ?_
      refine P_goto 17 d_H_badTarget_13 (by decide) ?_
      exact P_zret d_H_badTarget_17 (by decide) (by simp [f_badTarget, *]) (by rfl)
set_option maxHeartbeats 400000 in
set_option maxRecDepth 10000 in
theorem c_H_lengthOf (σ μ : SG) (k : Int32) : CF k_H_lengthOf [.inr 0, .inl k] (σ, μ) (some (nI (ln k))) (σ, μ) := by
  refine CF.of rfl rfl (Nat.le_of_ble_eq_true rfl) (L := [some (.inr 0), some (.inl k)]) rfl ?_
  refine P_iload_n d_H_lengthOf_0 rfl ?_
  refine P_if_eq 10 d_H_lengthOf_1 (by decide) (fun c1 => ?_) (fun c1 => ?_)
  · refine P_iconst (v := 1) d_H_lengthOf_10 (by decide) ?_
    exact P_iret d_H_lengthOf_11 (by simp [ln, *] <;> rfl) (by rfl)
  · refine P_iload_n d_H_lengthOf_4 rfl ?_
    refine P_bipush (v := 7) d_H_lengthOf_5 (by decide) ?_
    refine P_icmp_ne 12 d_H_lengthOf_7 (by decide) (fun c7 => ?_) (fun c7 => ?_)
    · refine P_iload_n d_H_lengthOf_12 rfl ?_
      refine P_iconst (v := 5) d_H_lengthOf_13 (by decide) ?_
      refine P_icmp_ne 21 d_H_lengthOf_14 (by decide) (fun c14 => ?_) (fun c14 => ?_)
      · refine P_iconst (v := 2) d_H_lengthOf_21 (by decide) ?_
        exact P_iret d_H_lengthOf_22 (by simp [ln, *] <;> rfl) (by rfl)
      · refine P_iconst (v := 3) d_H_lengthOf_17 (by decide) ?_
        refine P_goto 22 d_H_lengthOf_18 (by decide) ?_
        exact P_iret d_H_lengthOf_22 (by simp [ln, *] <;> rfl) (by rfl)
    · refine P_iconst (v := 1) d_H_lengthOf_10 (by decide) ?_
      exact P_iret d_H_lengthOf_11 (by simp [ln, *] <;> rfl) (by rfl)
set_option maxHeartbeats 400000 in
set_option maxRecDepth 10000 in
theorem c_H_asByte (σ μ : SG) (t : Int32) : CF k_H_asByte [.inr 0, .inl t] (σ, μ) (some (f_asByte t)) (σ, μ) := by
  refine CF.of rfl rfl (Nat.le_of_ble_eq_true rfl) (L := [some (.inr 0), some (.inl t)]) rfl ?_
  refine P_iload_n d_H_asByte_0 rfl ?_
  refine P_if_ge 12 d_H_asByte_1 (by decide) (fun c1 => ?_) (fun c1 => ?_)
  · refine P_iload_n d_H_asByte_12 rfl ?_
    exact P_iret d_H_asByte_13 (by simp [f_asByte, *]) (by rfl)
  · refine P_iload_n d_H_asByte_4 rfl ?_
    refine P_sipush (v := 256) d_H_asByte_5 (by decide) ?_
    refine P_iadd d_H_asByte_8 ?_
    refine P_goto 13 d_H_asByte_9 (by decide) ?_
    exact P_iret d_H_asByte_13 (by simp [f_asByte, *]) (by rfl)
set_option maxHeartbeats 400000 in
set_option maxRecDepth 10000 in
theorem c_H_signed (σ μ : SG) (b : Int32) : CF k_H_signed [.inr 0, .inl b] (σ, μ) (some (f_signed b)) (σ, μ) := by
  refine CF.of rfl rfl (Nat.le_of_ble_eq_true rfl) (L := [some (.inr 0), some (.inl b)]) rfl ?_
  refine P_iload_n d_H_signed_0 rfl ?_
  refine P_bipush (v := 127) d_H_signed_1 (by decide) ?_
  refine P_icmp_le 14 d_H_signed_3 (by decide) (fun c3 => ?_) (fun c3 => ?_)
  · refine P_iload_n d_H_signed_14 rfl ?_
    exact P_iret d_H_signed_15 (by simp [f_signed, *]) (by rfl)
  · refine P_iload_n d_H_signed_6 rfl ?_
    refine P_sipush (v := 256) d_H_signed_7 (by decide) ?_
    refine P_isub d_H_signed_10 ?_
    refine P_goto 15 d_H_signed_11 (by decide) ?_
    exact P_iret d_H_signed_15 (by simp [f_signed, *]) (by rfl)
set_option maxHeartbeats 400000 in
set_option maxRecDepth 10000 in
theorem c_H_emit (σ μ : SG) (b : Int32) (n : Nat) (hn : n < 64) (h : σ 0 0 = nI n) : CF k_H_emit [.inr 0, .inl b] (σ, μ) none (em σ n b, μ) := by
  have hi : vp_in (σ 0 0) 64 := by rw [h]; exact vp_in_nI hn (by decide)
  have hc : (σ 0 0).toNatClampNeg = n := by rw [h]; exact nI_clamp (by omega)
  have he : em σ n b = ss (ss (ss (ss σ 1 (σ 0 0).toNatClampNeg b) 2 (σ 0 0).toNatClampNeg b) 3 (σ 0 0).toNatClampNeg 0) 0 0 (σ 0 0 + 1) := by rw [hc, h, nI_1]; rfl
  refine CF.of rfl rfl (Nat.le_of_ble_eq_true rfl) (L := [some (.inr 0), some (.inl b)]) rfl ?_
  refine P_aload_n d_H_emit_0 rfl ?_
  refine g_H_plain d_H_emit_1 ?_
  refine P_aload_n d_H_emit_4 rfl ?_
  refine g_H_length d_H_emit_5 ?_
  refine P_iload_n d_H_emit_8 rfl ?_
  refine P_iast ar_1 (hi) d_H_emit_9 ?_
  refine P_aload_n d_H_emit_10 rfl ?_
  refine g_H_code d_H_emit_11 ?_
  refine P_aload_n d_H_emit_14 rfl ?_
  refine g_H_length d_H_emit_15 ?_
  refine P_iload_n d_H_emit_18 rfl ?_
  refine P_iast ar_2 (hi) d_H_emit_19 ?_
  refine P_aload_n d_H_emit_20 rfl ?_
  refine g_H_starts d_H_emit_21 ?_
  refine P_aload_n d_H_emit_24 rfl ?_
  refine g_H_length d_H_emit_25 ?_
  refine P_iconst (v := 0) d_H_emit_28 (by decide) ?_
  refine P_zast (y := 0) ar_3 (hi) (by rfl) d_H_emit_29 ?_
  refine P_aload_n d_H_emit_30 rfl ?_
  refine P_dup d_H_emit_31 ?_
  refine g_H_length d_H_emit_32 ?_
  refine P_iconst (v := 1) d_H_emit_35 (by decide) ?_
  refine P_iadd d_H_emit_36 ?_
  refine s_H_length d_H_emit_37 ?_
  exact P_vret d_H_emit_40 (by rfl) (by rw [he]; rfl)
set_option maxHeartbeats 400000 in
set_option maxRecDepth 10000 in
theorem c_H_put (σ μ : SG) (b : Int32) (w : Nat) (hw : w < 64) (h : σ 0 6 = nI w) : CF k_H_put [.inr 0, .inl b] (σ, μ) none (f_put σ w b, μ) := by
  have hi : vp_in (σ 0 6) 64 := by rw [h]; exact vp_in_nI hw (by decide)
  have hc : (σ 0 6).toNatClampNeg = w := by rw [h]; exact nI_clamp (by omega)
  have he : f_put σ w b = ss (ss σ 5 (σ 0 6).toNatClampNeg b) 0 6 (σ 0 6 + 1) := by rw [hc, h, nI_1]; rfl
  refine CF.of rfl rfl (Nat.le_of_ble_eq_true rfl) (L := [some (.inr 0), some (.inl b)]) rfl ?_
  refine P_aload_n d_H_put_0 rfl ?_
  refine g_H_area d_H_put_1 ?_
  refine P_aload_n d_H_put_4 rfl ?_
  refine g_H_writeAt d_H_put_5 ?_
  refine P_iload_n d_H_put_8 rfl ?_
  refine P_iast ar_5 (hi) d_H_put_9 ?_
  refine P_aload_n d_H_put_10 rfl ?_
  refine P_dup d_H_put_11 ?_
  refine g_H_writeAt d_H_put_12 ?_
  refine P_iconst (v := 1) d_H_put_15 (by decide) ?_
  refine P_iadd d_H_put_16 ?_
  refine s_H_writeAt d_H_put_17 ?_
  exact P_vret d_H_put_20 (by rfl) (by rw [he]; rfl)
set_option maxHeartbeats 400000 in
set_option maxRecDepth 10000 in
theorem c_H_length (σ μ : SG) : CF k_H_length [.inr 0] (σ, μ) (some (σ 0 0)) (σ, μ) := by
  refine CF.of rfl rfl (Nat.le_of_ble_eq_true rfl) (L := [some (.inr 0)]) rfl ?_
  refine P_aload_n d_H_length_0 rfl ?_
  refine g_H_length d_H_length_1 ?_
  exact P_iret d_H_length_4 (by rfl) (by rfl)
set_option maxHeartbeats 400000 in
set_option maxRecDepth 10000 in
theorem c_H_ending (σ μ : SG) : CF k_H_ending [.inr 0] (σ, μ) (some (σ 0 15)) (σ, μ) := by
  refine CF.of rfl rfl (Nat.le_of_ble_eq_true rfl) (L := [some (.inr 0)]) rfl ?_
  refine P_aload_n d_H_ending_0 rfl ?_
  refine g_H_end d_H_ending_1 ?_
  exact P_iret d_H_ending_4 (by rfl) (by rfl)
set_option maxHeartbeats 400000 in
set_option maxRecDepth 10000 in
theorem c_H_executed (σ μ : SG) : CF k_H_executed [.inr 0] (σ, μ) (some (σ 0 14)) (σ, μ) := by
  refine CF.of rfl rfl (Nat.le_of_ble_eq_true rfl) (L := [some (.inr 0)]) rfl ?_
  refine P_aload_n d_H_executed_0 rfl ?_
  refine g_H_done d_H_executed_1 ?_
  exact P_iret d_H_executed_4 (by rfl) (by rfl)
set_option maxHeartbeats 400000 in
set_option maxRecDepth 10000 in
theorem c_M_length (σ μ : SG) : CF k_M_length [.inr 16] (σ, μ) (some (μ 16 2)) (σ, μ) := by
  refine CF.of rfl rfl (Nat.le_of_ble_eq_true rfl) (L := [some (.inr 16)]) rfl ?_
  refine P_aload_n d_M_length_0 rfl ?_
  refine g_M_length d_M_length_1 ?_
  exact P_iret d_M_length_4 (by rfl) (by rfl)
set_option maxHeartbeats 400000 in
set_option maxRecDepth 10000 in
theorem c_M_ending (σ μ : SG) : CF k_M_ending [.inr 16] (σ, μ) (some (μ 16 9)) (σ, μ) := by
  refine CF.of rfl rfl (Nat.le_of_ble_eq_true rfl) (L := [some (.inr 16)]) rfl ?_
  refine P_aload_n d_M_ending_0 rfl ?_
  refine g_M_ending d_M_ending_1 ?_
  exact P_iret d_M_ending_4 (by rfl) (by rfl)
set_option maxHeartbeats 400000 in
set_option maxRecDepth 10000 in
theorem c_M_executed (σ μ : SG) : CF k_M_executed [.inr 16] (σ, μ) (some (μ 16 10)) (σ, μ) := by
  refine CF.of rfl rfl (Nat.le_of_ble_eq_true rfl) (L := [some (.inr 16)]) rfl ?_
  refine P_aload_n d_M_executed_0 rfl ?_
  refine g_M_executed d_M_executed_1 ?_
  exact P_iret d_M_executed_4 (by rfl) (by rfl)
set_option maxHeartbeats 400000 in
set_option maxRecDepth 10000 in
theorem c_H_peek (σ μ : SG) (x : Int32) (hL : σ 0 0 ≤ 64) : CF k_H_peek [.inr 0, .inl x] (σ, μ) (some (f_peek σ x)) (σ, μ) := by
  refine CF.of rfl rfl (Nat.le_of_ble_eq_true rfl) (L := [some (.inr 0), some (.inl x)]) rfl ?_
  refine P_iload_n d_H_peek_0 rfl ?_
  refine P_if_lt 12 d_H_peek_1 (by decide) (fun c1 => ?_) (fun c1 => ?_)
  · refine P_iconst (v := (-1)) d_H_peek_12 (by decide) ?_
    refine P_goto 22 d_H_peek_13 (by decide) ?_
    exact P_iret d_H_peek_22 (by simp [f_peek, *]) (by rfl)
  · refine P_iload_n d_H_peek_4 rfl ?_
    refine P_aload_n d_H_peek_5 rfl ?_
    refine g_H_length d_H_peek_6 ?_
    refine P_icmp_lt 16 d_H_peek_9 (by decide) (fun c9 => ?_) (fun c9 => ?_)
    · refine P_aload_n d_H_peek_16 rfl ?_
      refine g_H_plain d_H_peek_17 ?_
      refine P_iload_n d_H_peek_20 rfl ?_
      refine P_iald ar_1 (vp_of 64 rfl c1 (by grind)) d_H_peek_21 ?_
      exact P_iret d_H_peek_22 (by simp [f_peek, *]) (by rfl)
    · refine P_iconst (v := (-1)) d_H_peek_12 (by decide) ?_
      refine P_goto 22 d_H_peek_13 (by decide) ?_
      exact P_iret d_H_peek_22 (by simp [f_peek, *]) (by rfl)
set_option maxHeartbeats 400000 in
set_option maxRecDepth 10000 in
theorem c_M_peek (σ μ : SG) (x : Int32) (hL : μ 16 2 ≤ 64) : CF k_M_peek [.inr 16, .inl x] (σ, μ) (some (m_peek μ x)) (σ, μ) := by
  refine CF.of rfl rfl (Nat.le_of_ble_eq_true rfl) (L := [some (.inr 16), some (.inl x)]) rfl ?_
  refine P_iload_n d_M_peek_0 rfl ?_
  refine P_if_lt 12 d_M_peek_1 (by decide) (fun c1 => ?_) (fun c1 => ?_)
  · refine P_iconst (v := (-1)) d_M_peek_12 (by decide) ?_
    refine P_goto 22 d_M_peek_13 (by decide) ?_
    exact P_iret d_M_peek_22 (by simp [m_peek, *]) (by rfl)
  · refine P_iload_n d_M_peek_4 rfl ?_
    refine P_aload_n d_M_peek_5 rfl ?_
    refine g_M_length d_M_peek_6 ?_
    refine P_icmp_lt 16 d_M_peek_9 (by decide) (fun c9 => ?_) (fun c9 => ?_)
    · refine P_aload_n d_M_peek_16 rfl ?_
      refine g_M_code d_M_peek_17 ?_
      refine P_iload_n d_M_peek_20 rfl ?_
      refine Q_iald ar_17 (vp_of 64 rfl c1 (by grind)) d_M_peek_21 ?_
      exact P_iret d_M_peek_22 (by simp [m_peek, *]) (by rfl)
    · refine P_iconst (v := (-1)) d_M_peek_12 (by decide) ?_
      refine P_goto 22 d_M_peek_13 (by decide) ?_
      exact P_iret d_M_peek_22 (by simp [m_peek, *]) (by rfl)
set_option maxHeartbeats 400000 in
set_option maxRecDepth 10000 in
theorem c_H_isStart (σ μ : SG) (a : Int32) (hL : σ 0 0 ≤ 64) : CF k_H_isStart [.inr 0, .inl a] (σ, μ) (some (f_isStart σ a)) (σ, μ) := by
  refine CF.of rfl rfl (Nat.le_of_ble_eq_true rfl) (L := [some (.inr 0), some (.inl a)]) rfl ?_
  refine P_iload_n d_H_isStart_0 rfl ?_
  refine P_if_lt 25 d_H_isStart_1 (by decide) (fun c1 => ?_) (fun c1 => ?_)
  · refine P_iconst (v := 0) d_H_isStart_25 (by decide) ?_
    exact P_zret d_H_isStart_26 (by decide) (by simp [f_isStart, *]) (by rfl)
  · refine P_iload_n d_H_isStart_4 rfl ?_
    refine P_aload_n d_H_isStart_5 rfl ?_
    refine g_H_length d_H_isStart_6 ?_
    refine P_icmp_ge 25 d_H_isStart_9 (by decide) (fun c9 => ?_) (fun c9 => ?_)
    · refine P_iconst (v := 0) d_H_isStart_25 (by decide) ?_
      exact P_zret d_H_isStart_26 (by decide) (by simp [f_isStart, *]) (by rfl)
    · refine P_aload_n d_H_isStart_12 rfl ?_
      refine g_H_starts d_H_isStart_13 ?_
      refine P_iload_n d_H_isStart_16 rfl ?_
      refine P_zald ar_3 (vp_of 64 rfl c1 (by grind)) d_H_isStart_17 ?_
      refine P_if_eq 25 d_H_isStart_18 (by decide) (fun c18 => ?_) (fun c18 => ?_)
      · refine P_iconst (v := 0) d_H_isStart_25 (by decide) ?_
        exact P_zret d_H_isStart_26 (by decide) (by simp [f_isStart, *]) (by rfl)
      · refine P_iconst (v := 1) d_H_isStart_21 (by decide) ?_
        refine P_goto 26 d_H_isStart_22 (by decide) ?_
        exact P_zret d_H_isStart_26 (by decide) (by simp [f_isStart, *]) (by rfl)
set_option maxHeartbeats 400000 in
set_option maxRecDepth 10000 in
theorem c_M_starts (σ μ : SG) (a : Int32) (hL : μ 16 2 ≤ 64) : CF k_M_starts [.inr 16, .inl a] (σ, μ) (some (m_starts μ a)) (σ, μ) := by
  refine CF.of rfl rfl (Nat.le_of_ble_eq_true rfl) (L := [some (.inr 16), some (.inl a)]) rfl ?_
  refine P_iload_n d_M_starts_0 rfl ?_
  refine P_if_lt 25 d_M_starts_1 (by decide) (fun c1 => ?_) (fun c1 => ?_)
  · refine P_iconst (v := 0) d_M_starts_25 (by decide) ?_
    exact P_zret d_M_starts_26 (by decide) (by simp [m_starts, *]) (by rfl)
  · refine P_iload_n d_M_starts_4 rfl ?_
    refine P_aload_n d_M_starts_5 rfl ?_
    refine g_M_length d_M_starts_6 ?_
    refine P_icmp_ge 25 d_M_starts_9 (by decide) (fun c9 => ?_) (fun c9 => ?_)
    · refine P_iconst (v := 0) d_M_starts_25 (by decide) ?_
      exact P_zret d_M_starts_26 (by decide) (by simp [m_starts, *]) (by rfl)
    · refine P_aload_n d_M_starts_12 rfl ?_
      refine g_M_begins d_M_starts_13 ?_
      refine P_iload_n d_M_starts_16 rfl ?_
      refine Q_zald ar_18 (vp_of 64 rfl c1 (by grind)) d_M_starts_17 ?_
      refine P_if_eq 25 d_M_starts_18 (by decide) (fun c18 => ?_) (fun c18 => ?_)
      · refine P_iconst (v := 0) d_M_starts_25 (by decide) ?_
        exact P_zret d_M_starts_26 (by decide) (by simp [m_starts, *]) (by rfl)
      · refine P_iconst (v := 1) d_M_starts_21 (by decide) ?_
        refine P_goto 26 d_M_starts_22 (by decide) ?_
        exact P_zret d_M_starts_26 (by decide) (by simp [m_starts, *]) (by rfl)
set_option maxHeartbeats 400000 in
set_option maxRecDepth 10000 in
theorem c_H_fetch (σ μ : SG) (x : Int32) : CF k_H_fetch [.inr 0, .inl x] (σ, μ) (some (f_fetch σ x)) (σ, μ) := by
  refine CF.of rfl rfl (Nat.le_of_ble_eq_true rfl) (L := [some (.inr 0), some (.inl x), none]) rfl ?_
  refine P_iload_n d_H_fetch_0 rfl ?_
  refine P_sipush (v := 512) d_H_fetch_1 (by decide) ?_
  refine P_icmp_lt 32 d_H_fetch_4 (by decide) (fun c4 => ?_) (fun c4 => ?_)
  · refine P_iload_n d_H_fetch_32 rfl ?_
    refine P_if_lt 51 d_H_fetch_33 (by decide) (fun c33 => ?_) (fun c33 => ?_)
    · refine P_sipush (v := 255) d_H_fetch_51 (by decide) ?_
      exact P_iret d_H_fetch_54 (by simp [f_fetch, *]) (by rfl)
    · refine P_iload_n d_H_fetch_36 rfl ?_
      refine P_bipush (v := 64) d_H_fetch_37 (by decide) ?_
      refine P_icmp_ge 51 d_H_fetch_39 (by decide) (fun c39 => ?_) (fun c39 => ?_)
      · refine P_sipush (v := 255) d_H_fetch_51 (by decide) ?_
        exact P_iret d_H_fetch_54 (by simp [f_fetch, *]) (by rfl)
      · refine P_aload_n d_H_fetch_42 rfl ?_
        refine g_H_code d_H_fetch_43 ?_
        refine P_iload_n d_H_fetch_46 rfl ?_
        refine P_iald ar_2 (vp_of 64 rfl c33 (by grind)) d_H_fetch_47 ?_
        refine P_goto 54 d_H_fetch_48 (by decide) ?_
        exact P_iret d_H_fetch_54 (by simp [f_fetch, *]) (by rfl)
  · refine P_iload_n d_H_fetch_7 rfl ?_
    refine P_sipush (v := 512) d_H_fetch_8 (by decide) ?_
    refine P_isub d_H_fetch_11 ?_
    refine P_istore_n (L' := [some (.inr 0), some (.inl _), some (.inl _)]) d_H_fetch_12 (by decide) rfl ?_
    refine P_iload_n d_H_fetch_13 rfl ?_
    refine P_bipush (v := 64) d_H_fetch_14 (by decide) ?_
    refine P_icmp_ge 28 d_H_fetch_16 (by decide) (fun c16 => ?_) (fun c16 => ?_)
    · refine P_sipush (v := 255) d_H_fetch_28 (by decide) ?_
      exact P_iret d_H_fetch_31 (by simp [f_fetch, *]) (by rfl)
    · refine P_aload_n d_H_fetch_19 rfl ?_
      refine g_H_area d_H_fetch_20 ?_
      refine P_iload_n d_H_fetch_23 rfl ?_
      refine P_iald ar_5 (vp_of 64 rfl (by grind) (by grind)) d_H_fetch_24 ?_
      refine P_goto 31 d_H_fetch_25 (by decide) ?_
      exact P_iret d_H_fetch_31 (by simp [f_fetch, *]) (by rfl)
set_option maxHeartbeats 400000 in
set_option maxRecDepth 10000 in
theorem c_H_enter (σ μ : SG) (back target : Int32) (h0 : ¬ σ 0 11 < 0) (h8 : σ 0 11 ≤ 8) : CF k_H_enter [.inr 0, .inl back, .inl target] (σ, μ) none (f_enter σ back target, μ) := by
  refine CF.of rfl rfl (Nat.le_of_ble_eq_true rfl) (L := [some (.inr 0), some (.inl back), some (.inl target)]) rfl ?_
  refine P_aload_n d_H_enter_0 rfl ?_
  refine g_H_stacked d_H_enter_1 ?_
  refine P_bipush (v := 8) d_H_enter_4 (by decide) ?_
  refine P_icmp_ne 17 d_H_enter_6 (by decide) (fun c6 => ?_) (fun c6 => ?_)
  · refine P_aload_n d_H_enter_17 rfl ?_
    refine g_H_stack d_H_enter_18 ?_
    refine P_aload_n d_H_enter_21 rfl ?_
    refine g_H_stacked d_H_enter_22 ?_
    refine P_iload_n d_H_enter_25 rfl ?_
    refine P_iast ar_12 (vp_of 8 rfl h0 (by grind)) d_H_enter_26 ?_
    refine P_aload_n d_H_enter_27 rfl ?_
    refine P_dup d_H_enter_28 ?_
    refine g_H_stacked d_H_enter_29 ?_
    refine P_iconst (v := 1) d_H_enter_32 (by decide) ?_
    refine P_iadd d_H_enter_33 ?_
    refine s_H_stacked d_H_enter_34 ?_
    refine P_aload_n d_H_enter_37 rfl ?_
    refine P_iload_n d_H_enter_38 rfl ?_
    refine s_H_pc d_H_enter_39 ?_
    exact P_vret d_H_enter_42 (by rfl) (by unfold f_enter; first | rw [if_pos c6] | rw [if_neg c6]; rfl)
  · refine P_aload_n d_H_enter_9 rfl ?_
    refine P_iconst (v := 3) d_H_enter_10 (by decide) ?_
    refine s_H_end d_H_enter_11 ?_
    refine P_goto 42 d_H_enter_14 (by decide) ?_
    exact P_vret d_H_enter_42 (by rfl) (by unfold f_enter; first | rw [if_pos c6] | rw [if_neg c6]; rfl)
set_option maxHeartbeats 400000 in
set_option maxRecDepth 10000 in
theorem c_H_leave (σ μ : SG) (h0 : ¬ σ 0 11 < 0) (h8 : σ 0 11 ≤ 8) : CF k_H_leave [.inr 0] (σ, μ) none (f_leave σ, μ) := by
  refine CF.of rfl rfl (Nat.le_of_ble_eq_true rfl) (L := [some (.inr 0)]) rfl ?_
  refine P_aload_n d_H_leave_0 rfl ?_
  refine g_H_stacked d_H_leave_1 ?_
  refine P_if_ne 15 d_H_leave_4 (by decide) (fun c4 => ?_) (fun c4 => ?_)
  · refine P_aload_n d_H_leave_15 rfl ?_
    refine P_dup d_H_leave_16 ?_
    refine g_H_stacked d_H_leave_17 ?_
    refine P_iconst (v := 1) d_H_leave_20 (by decide) ?_
    refine P_isub d_H_leave_21 ?_
    refine s_H_stacked d_H_leave_22 ?_
    refine P_aload_n d_H_leave_25 rfl ?_
    refine P_aload_n d_H_leave_26 rfl ?_
    refine g_H_stack d_H_leave_27 ?_
    refine P_aload_n d_H_leave_30 rfl ?_
    refine g_H_stacked d_H_leave_31 ?_
    refine P_iald ar_12 (vp_of (i := σ 0 11 - 1) 8 rfl (by grind) (by grind)) d_H_leave_34 ?_
    refine s_H_pc d_H_leave_35 ?_
    exact P_vret d_H_leave_38 (by rfl) (by unfold f_leave; first | rw [if_pos c4] | rw [if_neg c4]; rfl)
  · refine P_aload_n d_H_leave_7 rfl ?_
    refine P_iconst (v := 1) d_H_leave_8 (by decide) ?_
    refine s_H_end d_H_leave_9 ?_
    refine P_goto 38 d_H_leave_12 (by decide) ?_
    exact P_vret d_H_leave_38 (by rfl) (by unfold f_leave; first | rw [if_pos c4] | rw [if_neg c4]; rfl)
set_option maxHeartbeats 400000 in
set_option maxRecDepth 10000 in
theorem c_H_change (σ μ : SG) (kind r second next : Int32) (hr : vp_in r 4) : CF k_H_change [.inr 0, .inl kind, .inl r, .inl second, .inl next] (σ, μ) none (f_change σ kind r second next, μ) := by
  refine CF.of rfl rfl (Nat.le_of_ble_eq_true rfl) (L := [some (.inr 0), some (.inl kind), some (.inl r), some (.inl second), some (.inl next)]) rfl ?_
  refine P_iload_n d_H_change_0 rfl ?_
  refine P_iconst (v := 1) d_H_change_1 (by decide) ?_
  refine P_icmp_ne 22 d_H_change_2 (by decide) (fun c2 => ?_) (fun c2 => ?_)
  · refine P_iload_n d_H_change_22 rfl ?_
    refine P_iconst (v := 2) d_H_change_23 (by decide) ?_
    refine P_icmp_ne 44 d_H_change_24 (by decide) (fun c24 => ?_) (fun c24 => ?_)
    · refine P_iload_n d_H_change_44 rfl ?_
      refine P_iconst (v := 3) d_H_change_45 (by decide) ?_
      refine P_icmp_ne 68 d_H_change_46 (by decide) (fun c46 => ?_) (fun c46 => ?_)
      · refine P_aload_n d_H_change_68 rfl ?_
        refine g_H_reg d_H_change_69 ?_
        refine P_iload_n d_H_change_72 rfl ?_
        refine P_iload d_H_change_73 rfl ?_
        refine P_iast ar_10 (hr) d_H_change_75 ?_
        exact P_vret d_H_change_76 (by rfl) (by simp [f_change, *])
      · refine P_aload_n d_H_change_49 rfl ?_
        refine g_H_reg d_H_change_50 ?_
        refine P_iload_n d_H_change_53 rfl ?_
        refine P_aload_n d_H_change_54 rfl ?_
        refine g_H_reg d_H_change_55 ?_
        refine P_iload_n d_H_change_58 rfl ?_
        refine P_iconst (v := 2) d_H_change_59 (by decide) ?_
        refine P_ishr d_H_change_60 ?_
        refine P_iconst (v := 3) d_H_change_61 (by decide) ?_
        refine P_iand d_H_change_62 ?_
        refine P_iald ar_10 (vp_and3 _) d_H_change_63 ?_
        refine P_iast ar_10 (hr) d_H_change_64 ?_
        refine P_goto 76 d_H_change_65 (by decide) ?_
        exact P_vret d_H_change_76 (by rfl) (by simp [f_change, *])
    · refine P_aload_n d_H_change_27 rfl ?_
      refine g_H_reg d_H_change_28 ?_
      refine P_iload_n d_H_change_31 rfl ?_
      refine P_aload_n d_H_change_32 rfl ?_
      refine g_H_reg d_H_change_33 ?_
      refine P_iload_n d_H_change_36 rfl ?_
      refine P_iald ar_10 (hr) d_H_change_37 ?_
      refine P_iconst (v := 1) d_H_change_38 (by decide) ?_
      refine P_isub d_H_change_39 ?_
      refine P_iast ar_10 (hr) d_H_change_40 ?_
      refine P_goto 76 d_H_change_41 (by decide) ?_
      exact P_vret d_H_change_76 (by rfl) (by simp [f_change, *])
  · refine P_aload_n d_H_change_5 rfl ?_
    refine g_H_reg d_H_change_6 ?_
    refine P_iload_n d_H_change_9 rfl ?_
    refine P_aload_n d_H_change_10 rfl ?_
    refine g_H_reg d_H_change_11 ?_
    refine P_iload_n d_H_change_14 rfl ?_
    refine P_iald ar_10 (hr) d_H_change_15 ?_
    refine P_iconst (v := 1) d_H_change_16 (by decide) ?_
    refine P_iadd d_H_change_17 ?_
    refine P_iast ar_10 (hr) d_H_change_18 ?_
    refine P_goto 76 d_H_change_19 (by decide) ?_
    exact P_vret d_H_change_76 (by rfl) (by simp [f_change, *])
set_option maxHeartbeats 400000 in
set_option maxRecDepth 10000 in
theorem c_M_isRegister (σ μ : SG) (r : Int32) : CF k_M_isRegister [.inr 16, .inl r] (σ, μ) (some (m_isRegister r)) (σ, μ) := by
  refine CF.of rfl rfl (Nat.le_of_ble_eq_true rfl) (L := [some (.inr 16), some (.inl r)]) rfl ?_
  refine P_iload_n d_M_isRegister_0 rfl ?_
  refine P_if_lt 13 d_M_isRegister_1 (by decide) (fun c1 => ?_) (fun c1 => ?_)
  · refine P_iconst (v := 0) d_M_isRegister_13 (by decide) ?_
    exact P_zret d_M_isRegister_14 (by decide) (by simp [m_isRegister, *]) (by rfl)
  · refine P_iload_n d_M_isRegister_4 rfl ?_
    refine P_iconst (v := 3) d_M_isRegister_5 (by decide) ?_
    refine P_icmp_gt 13 d_M_isRegister_6 (by decide) (fun c6 => ?_) (fun c6 => ?_)
    · refine P_iconst (v := 0) d_M_isRegister_13 (by decide) ?_
      exact P_zret d_M_isRegister_14 (by decide) (by simp [m_isRegister, *]) (by rfl)
    · refine P_iconst (v := 1) d_M_isRegister_9 (by decide) ?_
      refine P_goto 14 d_M_isRegister_10 (by decide) ?_
      exact P_zret d_M_isRegister_14 (by decide) (by simp [m_isRegister, *]) (by rfl)
set_option maxHeartbeats 400000 in
set_option maxRecDepth 10000 in
theorem c_M_isTarget (σ μ : SG) (t : Int32) : CF k_M_isTarget [.inr 16, .inl t] (σ, μ) (some (m_isTarget t)) (σ, μ) := by
  refine CF.of rfl rfl (Nat.le_of_ble_eq_true rfl) (L := [some (.inr 16), some (.inl t)]) rfl ?_
  refine P_iload_n d_M_isTarget_0 rfl ?_
  refine P_bipush (v := (-128)) d_M_isTarget_1 (by decide) ?_
  refine P_icmp_lt 16 d_M_isTarget_3 (by decide) (fun c3 => ?_) (fun c3 => ?_)
  · refine P_iconst (v := 0) d_M_isTarget_16 (by decide) ?_
    exact P_zret d_M_isTarget_17 (by decide) (by simp [m_isTarget, *]) (by rfl)
  · refine P_iload_n d_M_isTarget_6 rfl ?_
    refine P_bipush (v := 127) d_M_isTarget_7 (by decide) ?_
    refine P_icmp_gt 16 d_M_isTarget_9 (by decide) (fun c9 => ?_) (fun c9 => ?_)
    · refine P_iconst (v := 0) d_M_isTarget_16 (by decide) ?_
      exact P_zret d_M_isTarget_17 (by decide) (by simp [m_isTarget, *]) (by rfl)
    · refine P_iconst (v := 1) d_M_isTarget_12 (by decide) ?_
      refine P_goto 17 d_M_isTarget_13 (by decide) ?_
      exact P_zret d_M_isTarget_17 (by decide) (by simp [m_isTarget, *]) (by rfl)
set_option maxHeartbeats 400000 in
set_option maxRecDepth 10000 in
theorem c_M_calls (σ μ : SG) (a : Int32) : CF k_M_calls [.inr 16, .inl a] (σ, μ) (some (m_calls μ a)) (σ, μ) := by
  refine CF.of rfl rfl (Nat.le_of_ble_eq_true rfl) (L := [some (.inr 16), some (.inl a)]) rfl ?_
  refine P_iload_n d_M_calls_0 rfl ?_
  refine P_if_lt 10 d_M_calls_1 (by decide) (fun c1 => ?_) (fun c1 => ?_)
  · refine P_iconst (v := (-1)) d_M_calls_10 (by decide) ?_
    exact P_iret d_M_calls_11 (by simp [m_calls, *]) (by rfl)
  · refine P_iload_n d_M_calls_4 rfl ?_
    refine P_bipush (v := 63) d_M_calls_5 (by decide) ?_
    refine P_icmp_le 12 d_M_calls_7 (by decide) (fun c7 => ?_) (fun c7 => ?_)
    · refine P_aload_n d_M_calls_12 rfl ?_
      refine g_M_hooked d_M_calls_13 ?_
      refine P_iload_n d_M_calls_16 rfl ?_
      refine Q_zald ar_21 (vp_of 64 rfl c1 (by grind)) d_M_calls_17 ?_
      refine P_if_eq 30 d_M_calls_18 (by decide) (fun c18 => ?_) (fun c18 => ?_)
      · refine P_bipush (v := (-3)) d_M_calls_30 (by decide) ?_
        exact P_iret d_M_calls_32 (by simp [m_calls, *]) (by rfl)
      · refine P_aload_n d_M_calls_21 rfl ?_
        refine g_M_count d_M_calls_22 ?_
        refine P_iload_n d_M_calls_25 rfl ?_
        refine Q_iald ar_22 (vp_of 64 rfl c1 (by grind)) d_M_calls_26 ?_
        refine P_goto 32 d_M_calls_27 (by decide) ?_
        exact P_iret d_M_calls_32 (by simp [m_calls, *]) (by rfl)
    · refine P_iconst (v := (-1)) d_M_calls_10 (by decide) ?_
      exact P_iret d_M_calls_11 (by simp [m_calls, *]) (by rfl)
set_option maxHeartbeats 400000 in
set_option maxRecDepth 10000 in
theorem c_M_unhook (σ μ : SG) (a : Int32) : CF k_M_unhook [.inr 16, .inl a] (σ, μ) (some (m_unhookR μ a)) (σ, m_unhookS μ a) := by
  refine CF.of rfl rfl (Nat.le_of_ble_eq_true rfl) (L := [some (.inr 16), some (.inl a)]) rfl ?_
  refine P_iload_n d_M_unhook_0 rfl ?_
  refine P_if_lt 10 d_M_unhook_1 (by decide) (fun c1 => ?_) (fun c1 => ?_)
  · refine P_iconst (v := (-1)) d_M_unhook_10 (by decide) ?_
    exact P_iret d_M_unhook_11 (by simp [m_unhookR, *] <;> rfl) (by simp [m_unhookS, *])
  · refine P_iload_n d_M_unhook_4 rfl ?_
    refine P_bipush (v := 63) d_M_unhook_5 (by decide) ?_
    refine P_icmp_le 12 d_M_unhook_7 (by decide) (fun c7 => ?_) (fun c7 => ?_)
    · refine P_aload_n d_M_unhook_12 rfl ?_
      refine g_M_hooked d_M_unhook_13 ?_
      refine P_iload_n d_M_unhook_16 rfl ?_
      refine Q_zald ar_21 (vp_of 64 rfl c1 (by grind)) d_M_unhook_17 ?_
      refine P_if_ne 24 d_M_unhook_18 (by decide) (fun c18 => ?_) (fun c18 => ?_)
      · refine P_aload_n d_M_unhook_24 rfl ?_
        refine g_M_hooked d_M_unhook_25 ?_
        refine P_iload_n d_M_unhook_28 rfl ?_
        refine P_iconst (v := 0) d_M_unhook_29 (by decide) ?_
        refine Q_zast (y := 0) ar_21 (vp_of 64 rfl c1 (by grind)) (by rfl) d_M_unhook_30 ?_
        refine P_aload_n d_M_unhook_31 rfl ?_
        refine g_M_count d_M_unhook_32 ?_
        refine P_iload_n d_M_unhook_35 rfl ?_
        refine Q_iald ar_22 (vp_of 64 rfl c1 (by grind)) d_M_unhook_36 ?_
        exact P_iret d_M_unhook_37 (by simp [m_unhookR, *] <;> rfl) (by simp [m_unhookS, *])
      · refine P_bipush (v := (-3)) d_M_unhook_21 (by decide) ?_
        exact P_iret d_M_unhook_23 (by simp [m_unhookR, *] <;> rfl) (by simp [m_unhookS, *])
    · refine P_iconst (v := (-1)) d_M_unhook_10 (by decide) ?_
      exact P_iret d_M_unhook_11 (by simp [m_unhookR, *] <;> rfl) (by simp [m_unhookS, *])
end
section
def cntH (σ : SG) : Nat → Int32
  | 0 => 0
  | n + 1 => if σ 7 n < 0 then cntH σ n else cntH σ n + 1
def slN (σ : SG) (a : Int32) : Nat → Int32
  | 0 => -1
  | n + 1 => if σ 7 n = a then nI n else slN σ a n
def mtN (σ : SG) (a m : Int32) : Nat → Int32
  | 0 => 0
  | k + 1 => if σ 7 k < 0 then mtN σ a m k else if σ 7 k + σ 8 k ≤ a then mtN σ a m k else if a + m ≤ σ 7 k then mtN σ a m k else 1
theorem mtN_01 (σ : SG) (a m : Int32) (k : Nat) : mtN σ a m k = 0 ∨ mtN σ a m k = 1 := by
  induction k with
  | zero => exact Or.inl rfl
  | succ k ih => unfold mtN; split; exact ih; split; exact ih; split; exact ih; exact Or.inr rfl
def hl (P : Nat → Int32) (a : Nat) : Nat := if 3 ≤ ln (P a) then ln (P a) else if 3 ≤ ln (P a) + ln (P (a + ln (P a))) then ln (P a) + ln (P (a + ln (P a))) else ln (P a) + ln (P (a + ln (P a))) + ln (P (a + (ln (P a) + ln (P (a + ln (P a))))))
def tgI (P : Nat → Int32) (x : Nat) : Int32 := if P x < 4 then -1000 else if P x ≤ 6 then nI (x + ln (P x)) + f_signed (P (x + ln (P x) - 1)) else -1000
def amN (P S : Nat → Int32) (a m : Int32) : Nat → Int32
  | 0 => 0
  | k + 1 => if S k = 0 then amN P S a m k else if amN P S a m k = 0 then (if tgI P k ≤ a then 0 else if a + m ≤ tgI P k then 0 else 1) else 1
theorem amN_01 (P S : Nat → Int32) (a m : Int32) (k : Nat) : amN P S a m k = 0 ∨ amN P S a m k = 1 := by
  induction k with
  | zero => exact Or.inl rfl
  | succ k ih => unfold amN; split; exact ih; split; split; exact Or.inl rfl; split; exact Or.inl rfl; exact Or.inr rfl; exact Or.inr rfl
def enN (σ : SG) (a : Int32) : Nat → Int32
  | 0 => a
  | k + 1 => if σ 7 k < 0 then enN σ a k else if a ≤ σ 7 k then enN σ a k else if σ 7 k + σ 8 k ≤ a then enN σ a k else if f_isStart σ a = 0 then enN σ a k else σ 4 a.toNatClampNeg
theorem ofInt1 (n : Nat) : nI n + Int32.ofInt 1 = nI (n + 1) := nI_1 n
set_option maxHeartbeats 400000 in
set_option maxRecDepth 10000 in
theorem lp_H_hooks (σ μ : SG) : ∀ (n i : Nat), i + n = 4 → PW k_H_hooks (some (cntH σ 4)) (σ, μ) 4 [some (.inr 0), some (.inl (cntH σ i)), some (.inl (nI i))] [] (σ, μ) := by
  intro n
  induction n with
  | zero =>
    intro i hi
    obtain rfl : i = 4 := by omega
    refine P_iload_n d_H_hooks_4 rfl ?_
    refine P_iconst (v := 4) d_H_hooks_5 (by decide) ?_
    refine P_icmp_ge 27 d_H_hooks_6 (by decide) (fun c6 => ?_) (fun c6 => False.elim (c6 (by decide)))
    refine P_iload_n d_H_hooks_27 rfl ?_
    exact P_iret d_H_hooks_28 (by rfl) (by rfl)
  | succ n ih =>
    intro i hi
    have h4 : i < 4 := by omega
    refine P_iload_n d_H_hooks_4 rfl ?_
    refine P_iconst (v := 4) d_H_hooks_5 (by decide) ?_
    refine P_icmp_ge 27 d_H_hooks_6 (by decide) (fun c6 => False.elim (nI_ge h4 (by decide) c6)) (fun c6 => ?_)
    refine P_aload_n d_H_hooks_9 rfl ?_
    refine g_H_hookAt d_H_hooks_10 ?_
    refine P_iload_n d_H_hooks_13 rfl ?_
    refine P_iald ar_7 (vp_in_nI h4 (by decide)) d_H_hooks_14 ?_
    refine P_top (y := σ 7 i) (by rw [nI_clamp (by omega)]) ?_
    refine P_if_lt 21 d_H_hooks_15 (by decide) (fun c15 => ?_) (fun c15 => ?_)
    · refine P_iinc (v := nI (i + 1)) (L' := [some (.inr 0), some (.inl _), some (.inl _)]) d_H_hooks_21 rfl (ofInt1 i) (by decide) rfl ?_
      refine P_goto 4 d_H_hooks_24 (by decide) ?_
      exact PW_L (by simp [cntH, c15]) (ih (i + 1) (by omega))
    · refine P_iinc (v := _ + 1) (L' := [some (.inr 0), some (.inl _), some (.inl _)]) d_H_hooks_18 rfl (rfl) (by decide) rfl ?_
      refine P_iinc (v := nI (i + 1)) (L' := [some (.inr 0), some (.inl _), some (.inl _)]) d_H_hooks_21 rfl (ofInt1 i) (by decide) rfl ?_
      refine P_goto 4 d_H_hooks_24 (by decide) ?_
      exact PW_L (by simp [cntH, c15]) (ih (i + 1) (by omega))
set_option maxHeartbeats 400000 in
set_option maxRecDepth 10000 in
theorem c_H_hooks (σ μ : SG) : CF k_H_hooks [.inr 0] (σ, μ) (some (cntH σ 4)) (σ, μ) := by
  refine CF.of rfl rfl (Nat.le_of_ble_eq_true rfl) (L := [some (.inr 0), none, none]) rfl ?_
  refine P_iconst (v := 0) d_H_hooks_0 (by decide) ?_
  refine P_istore_n (L' := [some (.inr 0), some (.inl 0), none]) d_H_hooks_1 (by decide) rfl ?_
  refine P_iconst (v := 0) d_H_hooks_2 (by decide) ?_
  refine P_istore_n (L' := [some (.inr 0), some (.inl 0), some (.inl 0)]) d_H_hooks_3 (by decide) rfl ?_
  exact lp_H_hooks σ μ 4 0 rfl
set_option maxHeartbeats 400000 in
set_option maxRecDepth 10000 in
theorem lp_H_slotOf (σ μ : SG) (a : Int32) : ∀ (n i : Nat), i + n = 4 → PW k_H_slotOf (some (slN σ a 4)) (σ, μ) 4 [some (.inr 0), some (.inl a), some (.inl (slN σ a i)), some (.inl (nI i))] [] (σ, μ) := by
  intro n
  induction n with
  | zero =>
    intro i hi
    obtain rfl : i = 4 := by omega
    refine P_iload_n d_H_slotOf_4 rfl ?_
    refine P_iconst (v := 4) d_H_slotOf_5 (by decide) ?_
    refine P_icmp_ge 27 d_H_slotOf_6 (by decide) (fun c6 => ?_) (fun c6 => False.elim (c6 (by decide)))
    refine P_iload_n d_H_slotOf_27 rfl ?_
    exact P_iret d_H_slotOf_28 (by rfl) (by rfl)
  | succ n ih =>
    intro i hi
    have h4 : i < 4 := by omega
    refine P_iload_n d_H_slotOf_4 rfl ?_
    refine P_iconst (v := 4) d_H_slotOf_5 (by decide) ?_
    refine P_icmp_ge 27 d_H_slotOf_6 (by decide) (fun c6 => False.elim (nI_ge h4 (by decide) c6)) (fun c6 => ?_)
    refine P_aload_n d_H_slotOf_9 rfl ?_
    refine g_H_hookAt d_H_slotOf_10 ?_
    refine P_iload_n d_H_slotOf_13 rfl ?_
    refine P_iald ar_7 (vp_in_nI h4 (by decide)) d_H_slotOf_14 ?_
    refine P_top (y := σ 7 i) (by rw [nI_clamp (by omega)]) ?_
    refine P_iload_n d_H_slotOf_15 rfl ?_
    refine P_icmp_ne 21 d_H_slotOf_16 (by decide) (fun c16 => ?_) (fun c16 => ?_)
    · refine P_iinc (v := nI (i + 1)) (L' := [some (.inr 0), some (.inl _), some (.inl _), some (.inl _)]) d_H_slotOf_21 rfl (ofInt1 i) (by decide) rfl ?_
      refine P_goto 4 d_H_slotOf_24 (by decide) ?_
      exact PW_L (by simp [slN, c16]) (ih (i + 1) (by omega))
    · refine P_iload_n d_H_slotOf_19 rfl ?_
      refine P_istore_n (L' := [some (.inr 0), some (.inl _), some (.inl _), some (.inl _)]) d_H_slotOf_20 (by decide) rfl ?_
      refine P_iinc (v := nI (i + 1)) (L' := [some (.inr 0), some (.inl _), some (.inl _), some (.inl _)]) d_H_slotOf_21 rfl (ofInt1 i) (by decide) rfl ?_
      refine P_goto 4 d_H_slotOf_24 (by decide) ?_
      exact PW_L (by simp [slN, c16]) (ih (i + 1) (by omega))
set_option maxHeartbeats 400000 in
set_option maxRecDepth 10000 in
theorem c_H_slotOf (σ μ : SG) (a : Int32) : CF k_H_slotOf [.inr 0, .inl a] (σ, μ) (some (slN σ a 4)) (σ, μ) := by
  refine CF.of rfl rfl (Nat.le_of_ble_eq_true rfl) (L := [some (.inr 0), some (.inl a), none, none]) rfl ?_
  refine P_iconst (v := (-1)) d_H_slotOf_0 (by decide) ?_
  refine P_istore_n (L' := [some (.inr 0), some (.inl _), some (.inl (-1)), none]) d_H_slotOf_1 (by decide) rfl ?_
  refine P_iconst (v := 0) d_H_slotOf_2 (by decide) ?_
  refine P_istore_n (L' := [some (.inr 0), some (.inl _), some (.inl (-1)), some (.inl 0)]) d_H_slotOf_3 (by decide) rfl ?_
  exact lp_H_slotOf σ μ a 4 0 rfl
set_option maxHeartbeats 400000 in
set_option maxRecDepth 10000 in
theorem lp_H_meetsHead (σ μ : SG) (a m : Int32) : ∀ (n i : Nat), i + n = 4 → PW k_H_meetsHead (some (mtN σ a m 4)) (σ, μ) 5 [some (.inr 0), some (.inl a), some (.inl m), some (.inl (mtN σ a m i)), some (.inl (nI i))] [] (σ, μ) := by
  intro n
  induction n with
  | zero =>
    intro i hi
    obtain rfl : i = 4 := by omega
    refine P_iload d_H_meetsHead_5 rfl ?_
    refine P_iconst (v := 4) d_H_meetsHead_7 (by decide) ?_
    refine P_icmp_ge 61 d_H_meetsHead_8 (by decide) (fun c8 => ?_) (fun c8 => False.elim (c8 (by decide)))
    refine P_iload_n d_H_meetsHead_61 rfl ?_
    exact P_zret d_H_meetsHead_62 (by exact mtN_01 _ _ _ _) (by rfl) (by rfl)
  | succ n ih =>
    intro i hi
    have h4 : i < 4 := by omega
    refine P_iload d_H_meetsHead_5 rfl ?_
    refine P_iconst (v := 4) d_H_meetsHead_7 (by decide) ?_
    refine P_icmp_ge 61 d_H_meetsHead_8 (by decide) (fun c8 => False.elim (nI_ge h4 (by decide) c8)) (fun c8 => ?_)
    refine P_aload_n d_H_meetsHead_11 rfl ?_
    refine g_H_hookAt d_H_meetsHead_12 ?_
    refine P_iload d_H_meetsHead_15 rfl ?_
    refine P_iald ar_7 (vp_in_nI h4 (by decide)) d_H_meetsHead_17 ?_
    refine P_top (y := σ 7 i) (by rw [nI_clamp (by omega)]) ?_
    refine P_if_lt 55 d_H_meetsHead_18 (by decide) (fun c18 => ?_) (fun c18 => ?_)
    · refine P_iinc (v := nI (i + 1)) (L' := [some (.inr 0), some (.inl _), some (.inl _), some (.inl _), some (.inl _)]) d_H_meetsHead_55 rfl (ofInt1 i) (by decide) rfl ?_
      refine P_goto 5 d_H_meetsHead_58 (by decide) ?_
      exact PW_L (by simp [mtN, *]) (ih (i + 1) (by omega))
    · refine P_iload_n d_H_meetsHead_21 rfl ?_
      refine P_aload_n d_H_meetsHead_22 rfl ?_
      refine g_H_hookAt d_H_meetsHead_23 ?_
      refine P_iload d_H_meetsHead_26 rfl ?_
      refine P_iald ar_7 (vp_in_nI h4 (by decide)) d_H_meetsHead_28 ?_
      refine P_top (y := σ 7 i) (by rw [nI_clamp (by omega)]) ?_
      refine P_aload_n d_H_meetsHead_29 rfl ?_
      refine g_H_headLength d_H_meetsHead_30 ?_
      refine P_iload d_H_meetsHead_33 rfl ?_
      refine P_iald ar_8 (vp_in_nI h4 (by decide)) d_H_meetsHead_35 ?_
      refine P_top (y := σ 8 i) (by rw [nI_clamp (by omega)]) ?_
      refine P_iadd d_H_meetsHead_36 ?_
      refine P_icmp_ge 55 d_H_meetsHead_37 (by decide) (fun c37 => ?_) (fun c37 => ?_)
      · refine P_iinc (v := nI (i + 1)) (L' := [some (.inr 0), some (.inl _), some (.inl _), some (.inl _), some (.inl _)]) d_H_meetsHead_55 rfl (ofInt1 i) (by decide) rfl ?_
        refine P_goto 5 d_H_meetsHead_58 (by decide) ?_
        exact PW_L (by simp [mtN, *]) (ih (i + 1) (by omega))
      · refine P_aload_n d_H_meetsHead_40 rfl ?_
        refine g_H_hookAt d_H_meetsHead_41 ?_
        refine P_iload d_H_meetsHead_44 rfl ?_
        refine P_iald ar_7 (vp_in_nI h4 (by decide)) d_H_meetsHead_46 ?_
        refine P_top (y := σ 7 i) (by rw [nI_clamp (by omega)]) ?_
        refine P_iload_n d_H_meetsHead_47 rfl ?_
        refine P_iload_n d_H_meetsHead_48 rfl ?_
        refine P_iadd d_H_meetsHead_49 ?_
        refine P_icmp_ge 55 d_H_meetsHead_50 (by decide) (fun c50 => ?_) (fun c50 => ?_)
        · refine P_iinc (v := nI (i + 1)) (L' := [some (.inr 0), some (.inl _), some (.inl _), some (.inl _), some (.inl _)]) d_H_meetsHead_55 rfl (ofInt1 i) (by decide) rfl ?_
          refine P_goto 5 d_H_meetsHead_58 (by decide) ?_
          exact PW_L (by simp [mtN, *]) (ih (i + 1) (by omega))
        · refine P_iconst (v := 1) d_H_meetsHead_53 (by decide) ?_
          refine P_istore_n (L' := [some (.inr 0), some (.inl _), some (.inl _), some (.inl 1), some (.inl _)]) d_H_meetsHead_54 (by decide) rfl ?_
          refine P_iinc (v := nI (i + 1)) (L' := [some (.inr 0), some (.inl _), some (.inl _), some (.inl 1), some (.inl _)]) d_H_meetsHead_55 rfl (ofInt1 i) (by decide) rfl ?_
          refine P_goto 5 d_H_meetsHead_58 (by decide) ?_
          exact PW_L (by simp [mtN, *]) (ih (i + 1) (by omega))
set_option maxHeartbeats 400000 in
set_option maxRecDepth 10000 in
theorem c_H_meetsHead (σ μ : SG) (a m : Int32) : CF k_H_meetsHead [.inr 0, .inl a, .inl m] (σ, μ) (some (mtN σ a m 4)) (σ, μ) := by
  refine CF.of rfl rfl (Nat.le_of_ble_eq_true rfl) (L := [some (.inr 0), some (.inl a), some (.inl m), none, none]) rfl ?_
  refine P_iconst (v := 0) d_H_meetsHead_0 (by decide) ?_
  refine P_istore_n (L' := [some (.inr 0), some (.inl _), some (.inl _), some (.inl 0), none]) d_H_meetsHead_1 (by decide) rfl ?_
  refine P_iconst (v := 0) d_H_meetsHead_2 (by decide) ?_
  refine P_istore (L' := [some (.inr 0), some (.inl _), some (.inl _), some (.inl 0), some (.inl 0)]) d_H_meetsHead_3 (by decide) rfl ?_
  exact lp_H_meetsHead σ μ a m 4 0 rfl
set_option maxHeartbeats 400000 in
set_option maxRecDepth 10000 in
theorem c_H_headOf (σ μ : SG) (a : Nat) (ha : a + 3 ≤ 64) : CF k_H_headOf [.inr 0, .inl (nI a)] (σ, μ) (some (nI (hl (σ 1) a))) (σ, μ) := by
  have l1 := ln_in (σ 1 a)
  have l2 := ln_in (σ 1 (a + ln (σ 1 a)))
  refine CF.of rfl rfl (Nat.le_of_ble_eq_true rfl) (L := [some (.inr 0), some (.inl (nI a)), none, none]) rfl ?_
  refine P_iconst (v := 0) d_H_headOf_0 (by decide) ?_
  refine P_istore_n (L' := [some (.inr 0), some (.inl _), some (.inl 0), none]) d_H_headOf_1 (by decide) rfl ?_
  refine P_iconst (v := 0) d_H_headOf_2 (by decide) ?_
  refine P_istore_n (L' := [some (.inr 0), some (.inl _), some (.inl 0), some (.inl 0)]) d_H_headOf_3 (by decide) rfl ?_
  refine P_iload_n d_H_headOf_4 rfl ?_
  refine P_iconst (v := 3) d_H_headOf_5 (by decide) ?_
  refine P_icmp_ge 35 d_H_headOf_6 (by decide) (fun hc => absurd hc (by decide)) (fun _ => ?_)
  refine P_iload_n d_H_headOf_9 rfl ?_
  refine P_iconst (v := 3) d_H_headOf_10 (by decide) ?_
  refine P_icmp_ge 35 d_H_headOf_11 (by decide) (fun hc => absurd hc (by decide)) (fun _ => ?_)
  refine P_iload_n d_H_headOf_14 rfl ?_
  refine P_aload_n d_H_headOf_15 rfl ?_
  refine P_aload_n d_H_headOf_16 rfl ?_
  refine g_H_plain d_H_headOf_17 ?_
  refine P_iload_n d_H_headOf_20 rfl ?_
  refine P_iload_n d_H_headOf_21 rfl ?_
  refine P_iadd d_H_headOf_22 ?_
  refine P_top (y := nI a) (by exact nI_add a 0) ?_
  refine P_iald ar_1 (vp_in_nI (by omega) (by decide)) d_H_headOf_23 ?_
  refine P_top (y := σ 1 a) (by rw [nI_clamp (by omega)]) ?_
  refine cl_H_lengthOf (c_H_lengthOf _ _ _) d_H_headOf_24 (Nat.le_of_ble_eq_true rfl) ?_
  refine P_iadd d_H_headOf_27 ?_
  refine P_top (y := nI (ln (σ 1 a))) (by rw [show (0 : Int32) = nI 0 from rfl, nI_add, Nat.zero_add]) ?_
  refine P_istore_n (L' := [some (.inr 0), some (.inl _), some (.inl _), some (.inl 0)]) d_H_headOf_28 (by decide) rfl ?_
  refine P_iinc (v := 1) (L' := [some (.inr 0), some (.inl _), some (.inl _), some (.inl 1)]) d_H_headOf_29 rfl (by decide) (by decide) rfl ?_
  refine P_goto 4 d_H_headOf_32 (by decide) ?_
  refine P_iload_n d_H_headOf_4 rfl ?_
  refine P_iconst (v := 3) d_H_headOf_5 (by decide) ?_
  refine P_icmp_ge 35 d_H_headOf_6 (by decide) (fun hc => absurd hc (by decide)) (fun _ => ?_)
  refine P_iload_n d_H_headOf_9 rfl ?_
  refine P_iconst (v := 3) d_H_headOf_10 (by decide) ?_
  refine P_icmp_ge 35 d_H_headOf_11 (by decide) (fun c11 => ?_) (fun c11 => ?_)
  · have e1 : 3 ≤ ln (σ 1 a) := (nI_leI (a := 3) (b := ln (σ 1 a)) (by decide) (by omega)).mp c11
    refine P_iload_n d_H_headOf_35 rfl ?_
    exact P_iret d_H_headOf_36 (by simp [hl, Nat.not_le.mpr, *]) (by rfl)
  · have e1 : ln (σ 1 a) < 3 := nI_3le (by omega) 3 (by decide) c11
    refine P_iload_n d_H_headOf_14 rfl ?_
    refine P_aload_n d_H_headOf_15 rfl ?_
    refine P_aload_n d_H_headOf_16 rfl ?_
    refine g_H_plain d_H_headOf_17 ?_
    refine P_iload_n d_H_headOf_20 rfl ?_
    refine P_iload_n d_H_headOf_21 rfl ?_
    refine P_iadd d_H_headOf_22 ?_
    refine P_top (y := nI (a + ln (σ 1 a))) (nI_add _ _) ?_
    refine P_iald ar_1 (vp_in_nI (by omega) (by decide)) d_H_headOf_23 ?_
    refine P_top (y := σ 1 (a + ln (σ 1 a))) (by rw [nI_clamp (by omega)]) ?_
    refine cl_H_lengthOf (c_H_lengthOf _ _ _) d_H_headOf_24 (Nat.le_of_ble_eq_true rfl) ?_
    refine P_iadd d_H_headOf_27 ?_
    refine P_top (y := nI (ln (σ 1 a) + ln (σ 1 (a + ln (σ 1 a))))) (nI_add _ _) ?_
    refine P_istore_n (L' := [some (.inr 0), some (.inl _), some (.inl _), some (.inl 1)]) d_H_headOf_28 (by decide) rfl ?_
    refine P_iinc (v := 2) (L' := [some (.inr 0), some (.inl _), some (.inl _), some (.inl 2)]) d_H_headOf_29 rfl (by decide) (by decide) rfl ?_
    refine P_goto 4 d_H_headOf_32 (by decide) ?_
    refine P_iload_n d_H_headOf_4 rfl ?_
    refine P_iconst (v := 3) d_H_headOf_5 (by decide) ?_
    refine P_icmp_ge 35 d_H_headOf_6 (by decide) (fun hc => absurd hc (by decide)) (fun _ => ?_)
    refine P_iload_n d_H_headOf_9 rfl ?_
    refine P_iconst (v := 3) d_H_headOf_10 (by decide) ?_
    refine P_icmp_ge 35 d_H_headOf_11 (by decide) (fun c11_2 => ?_) (fun c11_2 => ?_)
    · have e2 : 3 ≤ ln (σ 1 a) + ln (σ 1 (a + ln (σ 1 a))) := (nI_leI (a := 3) (by decide) (by omega)).mp c11_2
      refine P_iload_n d_H_headOf_35 rfl ?_
      exact P_iret d_H_headOf_36 (by simp [hl, Nat.not_le.mpr, *]) (by rfl)
    · have e2 : ln (σ 1 a) + ln (σ 1 (a + ln (σ 1 a))) < 3 := nI_3le (by omega) 3 (by decide) c11_2
      refine P_iload_n d_H_headOf_14 rfl ?_
      refine P_aload_n d_H_headOf_15 rfl ?_
      refine P_aload_n d_H_headOf_16 rfl ?_
      refine g_H_plain d_H_headOf_17 ?_
      refine P_iload_n d_H_headOf_20 rfl ?_
      refine P_iload_n d_H_headOf_21 rfl ?_
      refine P_iadd d_H_headOf_22 ?_
      refine P_top (y := nI (a + (ln (σ 1 a) + ln (σ 1 (a + ln (σ 1 a)))))) (nI_add _ _) ?_
      refine P_iald ar_1 (vp_in_nI (by omega) (by decide)) d_H_headOf_23 ?_
      refine P_top (y := σ 1 (a + (ln (σ 1 a) + ln (σ 1 (a + ln (σ 1 a)))))) (by rw [nI_clamp (by omega)]) ?_
      refine cl_H_lengthOf (c_H_lengthOf _ _ _) d_H_headOf_24 (Nat.le_of_ble_eq_true rfl) ?_
      refine P_iadd d_H_headOf_27 ?_
      refine P_top (y := nI (ln (σ 1 a) + ln (σ 1 (a + ln (σ 1 a))) + ln (σ 1 (a + (ln (σ 1 a) + ln (σ 1 (a + ln (σ 1 a)))))))) (nI_add _ _) ?_
      refine P_istore_n (L' := [some (.inr 0), some (.inl _), some (.inl _), some (.inl 2)]) d_H_headOf_28 (by decide) rfl ?_
      refine P_iinc (v := 3) (L' := [some (.inr 0), some (.inl _), some (.inl _), some (.inl 3)]) d_H_headOf_29 rfl (by decide) (by decide) rfl ?_
      refine P_goto 4 d_H_headOf_32 (by decide) ?_
      refine P_iload_n d_H_headOf_4 rfl ?_
      refine P_iconst (v := 3) d_H_headOf_5 (by decide) ?_
      refine P_icmp_ge 35 d_H_headOf_6 (by decide) (fun _ => ?_) (fun hc => absurd hc (by decide))
      refine P_iload_n d_H_headOf_35 rfl ?_
      exact P_iret d_H_headOf_36 (by simp [hl, Nat.not_le.mpr, *]) (by rfl)
set_option maxHeartbeats 400000 in
set_option maxRecDepth 10000 in
theorem c_H_targetOf (σ μ : SG) (x : Nat) (hx : x + ln (σ 1 x) ≤ 64) : CF k_H_targetOf [.inr 0, .inl (nI x)] (σ, μ) (some (tgI (σ 1) x)) (σ, μ) := by
  have l1 := ln_in (σ 1 x)
  refine CF.of rfl rfl (Nat.le_of_ble_eq_true rfl) (L := [some (.inr 0), some (.inl (nI x)), none, none, none, none]) rfl ?_
  refine P_aload_n d_H_targetOf_0 rfl ?_
  refine g_H_plain d_H_targetOf_1 ?_
  refine P_iload_n d_H_targetOf_4 rfl ?_
  refine P_iald ar_1 (vp_in_nI (by omega) (by decide)) d_H_targetOf_5 ?_
  refine P_top (y := σ 1 x) (by rw [nI_clamp (by omega)]) ?_
  refine P_istore_n (L' := [some (.inr 0), some (.inl _), some (.inl _), none, none, none]) d_H_targetOf_6 (by decide) rfl ?_
  refine P_iload_n d_H_targetOf_7 rfl ?_
  refine P_iconst (v := 4) d_H_targetOf_8 (by decide) ?_
  refine P_icmp_lt 18 d_H_targetOf_9 (by decide) (fun c9 => ?_) (fun c9 => ?_)
  · refine P_sipush (v := (-1000)) d_H_targetOf_18 (by decide) ?_
    exact P_iret d_H_targetOf_21 (by simp [tgI, f_signed, *]) (by rfl)
  · refine P_iload_n d_H_targetOf_12 rfl ?_
    refine P_bipush (v := 6) d_H_targetOf_13 (by decide) ?_
    refine P_icmp_le 22 d_H_targetOf_15 (by decide) (fun c15 => ?_) (fun c15 => ?_)
    · refine P_aload_n d_H_targetOf_22 rfl ?_
      refine P_iload_n d_H_targetOf_23 rfl ?_
      refine cl_H_lengthOf (c_H_lengthOf _ _ _) d_H_targetOf_24 (Nat.le_of_ble_eq_true rfl) ?_
      refine P_istore_n (L' := [some (.inr 0), some (.inl _), some (.inl _), some (.inl _), none, none]) d_H_targetOf_27 (by decide) rfl ?_
      refine P_aload_n d_H_targetOf_28 rfl ?_
      refine g_H_plain d_H_targetOf_29 ?_
      refine P_iload_n d_H_targetOf_32 rfl ?_
      refine P_iload_n d_H_targetOf_33 rfl ?_
      refine P_iadd d_H_targetOf_34 ?_
      refine P_top (y := nI (x + ln (σ 1 x))) (nI_add _ _) ?_
      refine P_iconst (v := 1) d_H_targetOf_35 (by decide) ?_
      refine P_isub d_H_targetOf_36 ?_
      refine P_top (y := nI (x + ln (σ 1 x) - 1)) (pk_sub (b := 1) (by omega)) ?_
      refine P_iald ar_1 (vp_in_nI (by omega) (by decide)) d_H_targetOf_37 ?_
      refine P_top (y := σ 1 (x + ln (σ 1 x) - 1)) (by rw [nI_clamp (by omega)]) ?_
      refine P_istore (L' := [some (.inr 0), some (.inl _), some (.inl _), some (.inl _), some (.inl _), none]) d_H_targetOf_38 (by decide) rfl ?_
      refine P_iload d_H_targetOf_40 rfl ?_
      refine P_bipush (v := 127) d_H_targetOf_42 (by decide) ?_
      refine P_icmp_le 56 d_H_targetOf_44 (by decide) (fun c44 => ?_) (fun c44 => ?_)
      · refine P_iload d_H_targetOf_56 rfl ?_
        refine P_istore (L' := [some (.inr 0), some (.inl _), some (.inl _), some (.inl _), some (.inl _), some (.inl _)]) d_H_targetOf_58 (by decide) rfl ?_
        refine P_iload_n d_H_targetOf_60 rfl ?_
        refine P_iload_n d_H_targetOf_61 rfl ?_
        refine P_iadd d_H_targetOf_62 ?_
        refine P_top (y := nI (x + ln (σ 1 x))) (nI_add _ _) ?_
        refine P_iload d_H_targetOf_63 rfl ?_
        refine P_iadd d_H_targetOf_65 ?_
        exact P_iret d_H_targetOf_66 (by simp [tgI, f_signed, *]) (by rfl)
      · refine P_iload d_H_targetOf_47 rfl ?_
        refine P_sipush (v := 256) d_H_targetOf_49 (by decide) ?_
        refine P_isub d_H_targetOf_52 ?_
        refine P_goto 58 d_H_targetOf_53 (by decide) ?_
        refine P_istore (L' := [some (.inr 0), some (.inl _), some (.inl _), some (.inl _), some (.inl _), some (.inl _)]) d_H_targetOf_58 (by decide) rfl ?_
        refine P_iload_n d_H_targetOf_60 rfl ?_
        refine P_iload_n d_H_targetOf_61 rfl ?_
        refine P_iadd d_H_targetOf_62 ?_
        refine P_top (y := nI (x + ln (σ 1 x))) (nI_add _ _) ?_
        refine P_iload d_H_targetOf_63 rfl ?_
        refine P_iadd d_H_targetOf_65 ?_
        exact P_iret d_H_targetOf_66 (by simp [tgI, f_signed, *]) (by rfl)
    · refine P_sipush (v := (-1000)) d_H_targetOf_18 (by decide) ?_
      exact P_iret d_H_targetOf_21 (by simp [tgI, f_signed, *]) (by rfl)
set_option maxHeartbeats 400000 in
set_option maxRecDepth 10000 in
theorem lp_H_aimedInside (σ μ : SG) (a m : Int32) (N : Nat) (hN : N ≤ 64) (hL : σ 0 0 = nI N) (hx : ∀ x, x < N → ¬ σ 3 x = 0 → x + ln (σ 1 x) ≤ 64) : ∀ (n i : Nat) (w : Option PV), i + n = N → PW k_H_aimedInside (some (amN (σ 1) (σ 3) a m N)) (σ, μ) 5 [some (.inr 0), some (.inl a), some (.inl m), some (.inl (amN (σ 1) (σ 3) a m i)), some (.inl (nI i)), w] [] (σ, μ) := by
  intro n
  induction n with
  | zero =>
    intro i w hi
    rw [show i = N by omega]
    refine P_iload d_H_aimedInside_5 rfl ?_
    refine P_aload_n d_H_aimedInside_7 rfl ?_
    refine g_H_length d_H_aimedInside_8 ?_
    refine P_top (y := nI N) (hL) ?_
    refine P_icmp_ge 62 d_H_aimedInside_11 (by decide) (fun c11 => ?_) (fun c11 => False.elim (c11 (Int32.le_refl _)))
    refine P_iload_n d_H_aimedInside_62 rfl ?_
    exact P_zret d_H_aimedInside_63 (by exact amN_01 _ _ _ _ _) (by rfl) (by rfl)
  | succ n ih =>
    intro i w hi
    have h4 : i < N := by omega
    refine P_iload d_H_aimedInside_5 rfl ?_
    refine P_aload_n d_H_aimedInside_7 rfl ?_
    refine g_H_length d_H_aimedInside_8 ?_
    refine P_top (y := nI N) (hL) ?_
    refine P_icmp_ge 62 d_H_aimedInside_11 (by decide) (fun c11 => False.elim (nI_ge h4 (by omega) c11)) (fun c11 => ?_)
    refine P_aload_n d_H_aimedInside_14 rfl ?_
    refine g_H_starts d_H_aimedInside_15 ?_
    refine P_iload d_H_aimedInside_18 rfl ?_
    refine P_zald ar_3 (vp_in_nI (show i < 64 by omega) (by decide)) d_H_aimedInside_20 ?_
    refine P_top (y := σ 3 i) (by rw [nI_clamp (by omega)]) ?_
    refine P_if_eq 56 d_H_aimedInside_21 (by decide) (fun c21 => ?_) (fun c21 => ?_)
    · refine P_iinc (v := nI (i + 1)) (L' := [some (.inr 0), some (.inl _), some (.inl _), some (.inl _), some (.inl _), _]) d_H_aimedInside_56 rfl (ofInt1 i) (by decide) rfl ?_
      refine P_goto 5 d_H_aimedInside_59 (by decide) ?_
      exact PW_v (fun v => [some (.inr 0), some (.inl a), some (.inl m), some (.inl v), some (.inl (nI (i + 1))), _]) (by simp [amN, *]) (ih (i + 1) _ (by omega))
    · refine P_aload_n d_H_aimedInside_24 rfl ?_
      refine P_iload d_H_aimedInside_25 rfl ?_
      refine cl_H_targetOf (c_H_targetOf _ _ _ (hx i h4 c21)) d_H_aimedInside_27 (Nat.le_of_ble_eq_true rfl) ?_
      refine P_istore (L' := [some (.inr 0), some (.inl _), some (.inl _), some (.inl _), some (.inl _), some (.inl _)]) d_H_aimedInside_30 (by decide) rfl ?_
      refine P_iload_n d_H_aimedInside_32 rfl ?_
      refine P_if_ne 50 d_H_aimedInside_33 (by decide) (fun c33 => ?_) (fun c33 => ?_)
      · refine P_iconst (v := 1) d_H_aimedInside_50 (by decide) ?_
        refine P_goto 55 d_H_aimedInside_51 (by decide) ?_
        refine P_istore_n (L' := [some (.inr 0), some (.inl _), some (.inl _), some (.inl 1), some (.inl _), some (.inl _)]) d_H_aimedInside_55 (by decide) rfl ?_
        refine P_iinc (v := nI (i + 1)) (L' := [some (.inr 0), some (.inl _), some (.inl _), some (.inl 1), some (.inl _), some (.inl _)]) d_H_aimedInside_56 rfl (ofInt1 i) (by decide) rfl ?_
        refine P_goto 5 d_H_aimedInside_59 (by decide) ?_
        exact PW_v (fun v => [some (.inr 0), some (.inl a), some (.inl m), some (.inl v), some (.inl (nI (i + 1))), _]) (by simp [amN, *]) (ih (i + 1) _ (by omega))
      · refine P_iload d_H_aimedInside_36 rfl ?_
        refine P_iload_n d_H_aimedInside_38 rfl ?_
        refine P_icmp_le 54 d_H_aimedInside_39 (by decide) (fun c39 => ?_) (fun c39 => ?_)
        · refine P_iconst (v := 0) d_H_aimedInside_54 (by decide) ?_
          refine P_istore_n (L' := [some (.inr 0), some (.inl _), some (.inl _), some (.inl 0), some (.inl _), some (.inl _)]) d_H_aimedInside_55 (by decide) rfl ?_
          refine P_iinc (v := nI (i + 1)) (L' := [some (.inr 0), some (.inl _), some (.inl _), some (.inl 0), some (.inl _), some (.inl _)]) d_H_aimedInside_56 rfl (ofInt1 i) (by decide) rfl ?_
          refine P_goto 5 d_H_aimedInside_59 (by decide) ?_
          exact PW_v (fun v => [some (.inr 0), some (.inl a), some (.inl m), some (.inl v), some (.inl (nI (i + 1))), _]) (by simp [amN, *]) (ih (i + 1) _ (by omega))
        · refine P_iload d_H_aimedInside_42 rfl ?_
          refine P_iload_n d_H_aimedInside_44 rfl ?_
          refine P_iload_n d_H_aimedInside_45 rfl ?_
          refine P_iadd d_H_aimedInside_46 ?_
          refine P_icmp_ge 54 d_H_aimedInside_47 (by decide) (fun c47 => ?_) (fun c47 => ?_)
          · refine P_iconst (v := 0) d_H_aimedInside_54 (by decide) ?_
            refine P_istore_n (L' := [some (.inr 0), some (.inl _), some (.inl _), some (.inl 0), some (.inl _), some (.inl _)]) d_H_aimedInside_55 (by decide) rfl ?_
            refine P_iinc (v := nI (i + 1)) (L' := [some (.inr 0), some (.inl _), some (.inl _), some (.inl 0), some (.inl _), some (.inl _)]) d_H_aimedInside_56 rfl (ofInt1 i) (by decide) rfl ?_
            refine P_goto 5 d_H_aimedInside_59 (by decide) ?_
            exact PW_v (fun v => [some (.inr 0), some (.inl a), some (.inl m), some (.inl v), some (.inl (nI (i + 1))), _]) (by simp [amN, *]) (ih (i + 1) _ (by omega))
          · refine P_iconst (v := 1) d_H_aimedInside_50 (by decide) ?_
            refine P_goto 55 d_H_aimedInside_51 (by decide) ?_
            refine P_istore_n (L' := [some (.inr 0), some (.inl _), some (.inl _), some (.inl 1), some (.inl _), some (.inl _)]) d_H_aimedInside_55 (by decide) rfl ?_
            refine P_iinc (v := nI (i + 1)) (L' := [some (.inr 0), some (.inl _), some (.inl _), some (.inl 1), some (.inl _), some (.inl _)]) d_H_aimedInside_56 rfl (ofInt1 i) (by decide) rfl ?_
            refine P_goto 5 d_H_aimedInside_59 (by decide) ?_
            exact PW_v (fun v => [some (.inr 0), some (.inl a), some (.inl m), some (.inl v), some (.inl (nI (i + 1))), _]) (by simp [amN, *]) (ih (i + 1) _ (by omega))
set_option maxHeartbeats 400000 in
set_option maxRecDepth 10000 in
theorem c_H_aimedInside (σ μ : SG) (a m : Int32) (N : Nat) (hN : N ≤ 64) (hL : σ 0 0 = nI N) (hx : ∀ x, x < N → ¬ σ 3 x = 0 → x + ln (σ 1 x) ≤ 64) : CF k_H_aimedInside [.inr 0, .inl a, .inl m] (σ, μ) (some (amN (σ 1) (σ 3) a m N)) (σ, μ) := by
  refine CF.of rfl rfl (Nat.le_of_ble_eq_true rfl) (L := [some (.inr 0), some (.inl a), some (.inl m), none, none, none]) rfl ?_
  refine P_iconst (v := 0) d_H_aimedInside_0 (by decide) ?_
  refine P_istore_n (L' := [some (.inr 0), some (.inl _), some (.inl _), some (.inl 0), none, none]) d_H_aimedInside_1 (by decide) rfl ?_
  refine P_iconst (v := 0) d_H_aimedInside_2 (by decide) ?_
  refine P_istore (L' := [some (.inr 0), some (.inl _), some (.inl _), some (.inl 0), some (.inl 0), none]) d_H_aimedInside_3 (by decide) rfl ?_
  exact lp_H_aimedInside σ μ a m N hN hL hx N 0 _ (by omega)
set_option maxHeartbeats 400000 in
set_option maxRecDepth 10000 in
theorem lp_H_entry (σ μ : SG) (a : Int32) (ha : vp_in a 64) (hL : σ 0 0 ≤ 64) : ∀ (n i : Nat) (w : Option PV), i + n = 4 → PW k_H_entry (some (enN σ a 4)) (σ, μ) 4 [some (.inr 0), some (.inl a), some (.inl (enN σ a i)), some (.inl (nI i)), w] [] (σ, μ) := by
  intro n
  induction n with
  | zero =>
    intro i w hi
    obtain rfl : i = 4 := by omega
    refine P_iload_n d_H_entry_4 rfl ?_
    refine P_iconst (v := 4) d_H_entry_5 (by decide) ?_
    refine P_icmp_ge 78 d_H_entry_6 (by decide) (fun c6 => ?_) (fun c6 => False.elim (c6 (by decide)))
    refine P_iload_n d_H_entry_78 rfl ?_
    exact P_iret d_H_entry_79 (by rfl) (by rfl)
  | succ n ih =>
    intro i w hi
    have h4 : i < 4 := by omega
    refine P_iload_n d_H_entry_4 rfl ?_
    refine P_iconst (v := 4) d_H_entry_5 (by decide) ?_
    refine P_icmp_ge 78 d_H_entry_6 (by decide) (fun c6 => False.elim (nI_ge h4 (by decide) c6)) (fun c6 => ?_)
    refine P_aload_n d_H_entry_9 rfl ?_
    refine g_H_hookAt d_H_entry_10 ?_
    refine P_iload_n d_H_entry_13 rfl ?_
    refine P_iald ar_7 (vp_in_nI h4 (by decide)) d_H_entry_14 ?_
    refine P_top (y := σ 7 i) (by rw [nI_clamp (by omega)]) ?_
    refine P_if_lt 49 d_H_entry_15 (by decide) (fun c15 => ?_) (fun c15 => ?_)
    · refine P_iconst (v := 0) d_H_entry_49 (by decide) ?_
      refine P_istore (L' := [some (.inr 0), some (.inl _), some (.inl _), some (.inl _), some (.inl 0)]) d_H_entry_50 (by decide) rfl ?_
      refine P_iload d_H_entry_52 rfl ?_
      refine P_if_eq 72 d_H_entry_54 (by decide) (fun _ => ?_) (fun hc => absurd hc (by decide))
      refine P_iinc (v := nI (i + 1)) (L' := [some (.inr 0), some (.inl _), some (.inl _), some (.inl _), some (.inl 0)]) d_H_entry_72 rfl (ofInt1 i) (by decide) rfl ?_
      refine P_goto 4 d_H_entry_75 (by decide) ?_
      exact PW_v (fun v => [some (.inr 0), some (.inl a), some (.inl v), some (.inl (nI (i + 1))), _]) (by simp [enN, *]) (ih (i + 1) _ (by omega))
    · refine P_iload_n d_H_entry_18 rfl ?_
      refine P_aload_n d_H_entry_19 rfl ?_
      refine g_H_hookAt d_H_entry_20 ?_
      refine P_iload_n d_H_entry_23 rfl ?_
      refine P_iald ar_7 (vp_in_nI h4 (by decide)) d_H_entry_24 ?_
      refine P_top (y := σ 7 i) (by rw [nI_clamp (by omega)]) ?_
      refine P_icmp_le 49 d_H_entry_25 (by decide) (fun c25 => ?_) (fun c25 => ?_)
      · refine P_iconst (v := 0) d_H_entry_49 (by decide) ?_
        refine P_istore (L' := [some (.inr 0), some (.inl _), some (.inl _), some (.inl _), some (.inl 0)]) d_H_entry_50 (by decide) rfl ?_
        refine P_iload d_H_entry_52 rfl ?_
        refine P_if_eq 72 d_H_entry_54 (by decide) (fun _ => ?_) (fun hc => absurd hc (by decide))
        refine P_iinc (v := nI (i + 1)) (L' := [some (.inr 0), some (.inl _), some (.inl _), some (.inl _), some (.inl 0)]) d_H_entry_72 rfl (ofInt1 i) (by decide) rfl ?_
        refine P_goto 4 d_H_entry_75 (by decide) ?_
        exact PW_v (fun v => [some (.inr 0), some (.inl a), some (.inl v), some (.inl (nI (i + 1))), _]) (by simp [enN, *]) (ih (i + 1) _ (by omega))
      · refine P_iload_n d_H_entry_28 rfl ?_
        refine P_aload_n d_H_entry_29 rfl ?_
        refine g_H_hookAt d_H_entry_30 ?_
        refine P_iload_n d_H_entry_33 rfl ?_
        refine P_iald ar_7 (vp_in_nI h4 (by decide)) d_H_entry_34 ?_
        refine P_top (y := σ 7 i) (by rw [nI_clamp (by omega)]) ?_
        refine P_aload_n d_H_entry_35 rfl ?_
        refine g_H_headLength d_H_entry_36 ?_
        refine P_iload_n d_H_entry_39 rfl ?_
        refine P_iald ar_8 (vp_in_nI h4 (by decide)) d_H_entry_40 ?_
        refine P_top (y := σ 8 i) (by rw [nI_clamp (by omega)]) ?_
        refine P_iadd d_H_entry_41 ?_
        refine P_icmp_ge 49 d_H_entry_42 (by decide) (fun c42 => ?_) (fun c42 => ?_)
        · refine P_iconst (v := 0) d_H_entry_49 (by decide) ?_
          refine P_istore (L' := [some (.inr 0), some (.inl _), some (.inl _), some (.inl _), some (.inl 0)]) d_H_entry_50 (by decide) rfl ?_
          refine P_iload d_H_entry_52 rfl ?_
          refine P_if_eq 72 d_H_entry_54 (by decide) (fun _ => ?_) (fun hc => absurd hc (by decide))
          refine P_iinc (v := nI (i + 1)) (L' := [some (.inr 0), some (.inl _), some (.inl _), some (.inl _), some (.inl 0)]) d_H_entry_72 rfl (ofInt1 i) (by decide) rfl ?_
          refine P_goto 4 d_H_entry_75 (by decide) ?_
          exact PW_v (fun v => [some (.inr 0), some (.inl a), some (.inl v), some (.inl (nI (i + 1))), _]) (by simp [enN, *]) (ih (i + 1) _ (by omega))
        · refine P_iconst (v := 1) d_H_entry_45 (by decide) ?_
          refine P_goto 50 d_H_entry_46 (by decide) ?_
          refine P_istore (L' := [some (.inr 0), some (.inl _), some (.inl _), some (.inl _), some (.inl 1)]) d_H_entry_50 (by decide) rfl ?_
          refine P_iload d_H_entry_52 rfl ?_
          refine P_if_eq 72 d_H_entry_54 (by decide) (fun hc => absurd hc (by decide)) (fun _ => ?_)
          refine P_aload_n d_H_entry_57 rfl ?_
          refine P_iload_n d_H_entry_58 rfl ?_
          refine cl_H_isStart (c_H_isStart _ _ _ hL) d_H_entry_59 (Nat.le_of_ble_eq_true rfl) ?_
          refine P_if_eq 72 d_H_entry_62 (by decide) (fun c62 => ?_) (fun c62 => ?_)
          · refine P_iinc (v := nI (i + 1)) (L' := [some (.inr 0), some (.inl _), some (.inl _), some (.inl _), some (.inl 1)]) d_H_entry_72 rfl (ofInt1 i) (by decide) rfl ?_
            refine P_goto 4 d_H_entry_75 (by decide) ?_
            exact PW_v (fun v => [some (.inr 0), some (.inl a), some (.inl v), some (.inl (nI (i + 1))), _]) (by simp [enN, *]) (ih (i + 1) _ (by omega))
          · refine P_aload_n d_H_entry_65 rfl ?_
            refine g_H_moved d_H_entry_66 ?_
            refine P_iload_n d_H_entry_69 rfl ?_
            refine P_iald ar_4 (ha) d_H_entry_70 ?_
            refine P_istore_n (L' := [some (.inr 0), some (.inl _), some (.inl _), some (.inl _), some (.inl 1)]) d_H_entry_71 (by decide) rfl ?_
            refine P_iinc (v := nI (i + 1)) (L' := [some (.inr 0), some (.inl _), some (.inl _), some (.inl _), some (.inl 1)]) d_H_entry_72 rfl (ofInt1 i) (by decide) rfl ?_
            refine P_goto 4 d_H_entry_75 (by decide) ?_
            exact PW_v (fun v => [some (.inr 0), some (.inl a), some (.inl v), some (.inl (nI (i + 1))), _]) (by simp [enN, *]) (ih (i + 1) _ (by omega))
set_option maxHeartbeats 400000 in
set_option maxRecDepth 10000 in
theorem c_H_entry (σ μ : SG) (a : Int32) (ha : vp_in a 64) (hL : σ 0 0 ≤ 64) : CF k_H_entry [.inr 0, .inl a] (σ, μ) (some (enN σ a 4)) (σ, μ) := by
  refine CF.of rfl rfl (Nat.le_of_ble_eq_true rfl) (L := [some (.inr 0), some (.inl a), none, none, none]) rfl ?_
  refine P_iload_n d_H_entry_0 rfl ?_
  refine P_istore_n (L' := [some (.inr 0), some (.inl _), some (.inl _), none, none]) d_H_entry_1 (by decide) rfl ?_
  refine P_iconst (v := 0) d_H_entry_2 (by decide) ?_
  refine P_istore_n (L' := [some (.inr 0), some (.inl _), some (.inl _), some (.inl 0), none]) d_H_entry_3 (by decide) rfl ?_
  exact lp_H_entry σ μ a ha hL 4 0 _ rfl
end
section
theorem PW_r {K : MD} {r r2 : Option Int32} {τ τ2 σ : SG2} {pc : Nat} {L : List (Option PV)} {st : List PV} (e1 : r = r2) (e2 : τ = τ2) (h : PW K r2 τ2 pc L st σ) : PW K r τ pc L st σ := by subst e1; subst e2; exact h
def ap (σ : SG) (n : Nat) (k b c : Int32) : SG := if nI (ln k) ≤ 1 then ss (em σ n k) 3 n 1 else if nI (ln k) ≤ 2 then em (ss (em σ n k) 3 n 1) (n + 1) b else em (em (ss (em σ n k) 3 n 1) (n + 1) b) (n + 2) c
def apR (σ : SG) (n : Nat) (k : Int32) : Int32 := if cntH σ 4 ≤ 0 then (if nI (n + ln k) ≤ 64 then nI n else -2) else -3
def apS (σ : SG) (n : Nat) (k b c : Int32) : SG := if cntH σ 4 ≤ 0 then (if nI (n + ln k) ≤ 64 then ap σ n k b c else σ) else σ
set_option maxHeartbeats 400000 in
set_option maxRecDepth 10000 in
theorem c_H_append (σ μ : SG) (k b c : Int32) (n : Nat) (hn : n ≤ 64) (h : σ 0 0 = nI n) : CF k_H_append [.inr 0, .inl k, .inl b, .inl c] (σ, μ) (some (apR σ n k)) (apS σ n k b c, μ) := by
  have l1 := ln_in k
  refine CF.of rfl rfl (Nat.le_of_ble_eq_true rfl) (L := [some (.inr 0), some (.inl k), some (.inl b), some (.inl c), none, none, none]) rfl ?_
  refine P_aload_n d_H_append_0 rfl ?_
  refine cl_H_hooks (c_H_hooks _ _) d_H_append_1 (Nat.le_of_ble_eq_true rfl) ?_
  refine P_istore (L' := [some (.inr 0), some (.inl _), some (.inl _), some (.inl _), some (.inl _), none, none]) d_H_append_4 (by decide) rfl ?_
  refine P_iload d_H_append_6 rfl ?_
  refine P_if_le 14 d_H_append_8 (by decide) (fun c8 => ?_) (fun c8 => ?_)
  · refine P_aload_n d_H_append_14 rfl ?_
    refine P_iload_n d_H_append_15 rfl ?_
    refine cl_H_lengthOf (c_H_lengthOf _ _ _) d_H_append_16 (Nat.le_of_ble_eq_true rfl) ?_
    refine P_istore (L' := [some (.inr 0), some (.inl _), some (.inl _), some (.inl _), some (.inl _), some (.inl _), none]) d_H_append_19 (by decide) rfl ?_
    refine P_aload_n d_H_append_21 rfl ?_
    refine g_H_length d_H_append_22 ?_
    refine P_top (y := nI n) (h) ?_
    refine P_iload d_H_append_25 rfl ?_
    refine P_iadd d_H_append_27 ?_
    refine P_top (y := nI (n + ln k)) (nI_add _ _) ?_
    refine P_bipush (v := 64) d_H_append_28 (by decide) ?_
    refine P_icmp_le 36 d_H_append_30 (by decide) (fun c30 => ?_) (fun c30 => ?_)
    · have c30n : n + ln k ≤ 64 := (nI_leI (by omega) (by decide)).mp c30
      refine P_aload_n d_H_append_36 rfl ?_
      refine g_H_length d_H_append_37 ?_
      refine P_top (y := nI n) (h) ?_
      refine P_istore (L' := [some (.inr 0), some (.inl _), some (.inl _), some (.inl _), some (.inl _), some (.inl _), some (.inl _)]) d_H_append_40 (by decide) rfl ?_
      refine P_aload_n d_H_append_42 rfl ?_
      refine P_iload_n d_H_append_43 rfl ?_
      refine cl_H_emit (c_H_emit _ _ _ n (by omega) h) d_H_append_44 (Nat.le_of_ble_eq_true rfl) ?_
      refine P_aload_n d_H_append_47 rfl ?_
      refine g_H_starts d_H_append_48 ?_
      refine P_iload d_H_append_51 rfl ?_
      refine P_iconst (v := 1) d_H_append_53 (by decide) ?_
      refine P_zast (y := 1) ar_3 (vp_in_nI (by omega) (by decide)) (by rfl) d_H_append_54 ?_
      refine PW_S (σ2 := (ss (em σ n k) 3 n 1, μ)) (by rw [nI_clamp (by omega)]) ?_
      refine P_iload d_H_append_55 rfl ?_
      refine P_iconst (v := 1) d_H_append_57 (by decide) ?_
      refine P_icmp_le 66 d_H_append_58 (by decide) (fun c58 => ?_) (fun c58 => ?_)
      · refine P_iload d_H_append_66 rfl ?_
        refine P_iconst (v := 2) d_H_append_68 (by decide) ?_
        refine P_icmp_le 77 d_H_append_69 (by decide) (fun c69 => ?_) (fun c69 => False.elim (c69 (Int32.le_trans c58 (by decide))))
        refine P_iload d_H_append_77 rfl ?_
        exact P_iret d_H_append_79 (by simp [apR, *]) (by simp [apS, ap, *])
      · have c58n : 1 < ln k := Nat.not_le.mp (fun q => c58 ((nI_leI (by omega) (by decide)).mpr q))
        refine P_aload_n d_H_append_61 rfl ?_
        refine P_iload_n d_H_append_62 rfl ?_
        refine cl_H_emit (c_H_emit _ _ _ (n + 1) (by omega) rfl) d_H_append_63 (Nat.le_of_ble_eq_true rfl) ?_
        refine P_iload d_H_append_66 rfl ?_
        refine P_iconst (v := 2) d_H_append_68 (by decide) ?_
        refine P_icmp_le 77 d_H_append_69 (by decide) (fun c69 => ?_) (fun c69 => ?_)
        · refine P_iload d_H_append_77 rfl ?_
          exact P_iret d_H_append_79 (by simp [apR, *]) (by simp [apS, ap, *])
        · have c69n : 2 < ln k := Nat.not_le.mp (fun q => c69 ((nI_leI (by omega) (by decide)).mpr q))
          refine P_aload_n d_H_append_72 rfl ?_
          refine P_iload_n d_H_append_73 rfl ?_
          refine cl_H_emit (c_H_emit _ _ _ (n + 2) (by omega) rfl) d_H_append_74 (Nat.le_of_ble_eq_true rfl) ?_
          refine P_iload d_H_append_77 rfl ?_
          exact P_iret d_H_append_79 (by simp [apR, *]) (by simp [apS, ap, *])
    · refine P_bipush (v := (-2)) d_H_append_33 (by decide) ?_
      exact P_iret d_H_append_35 (by simp [apR, *]) (by simp [apS, ap, *])
  · refine P_bipush (v := (-3)) d_H_append_11 (by decide) ?_
    exact P_iret d_H_append_13 (by simp [apR, *]) (by simp [apS, ap, *])
set_option maxHeartbeats 400000 in
set_option maxRecDepth 10000 in
theorem c_H_halt (σ μ : SG) (n : Nat) (hn : n ≤ 64) (h : σ 0 0 = nI n) : CF k_H_halt [.inr 0] (σ, μ) (some (apR σ n 0)) (apS σ n 0 0 0, μ) := by
  refine CF.of rfl rfl (Nat.le_of_ble_eq_true rfl) (L := [some (.inr 0)]) rfl ?_
  refine P_aload_n d_H_halt_0 rfl ?_
  refine P_iconst (v := 0) d_H_halt_1 (by decide) ?_
  refine P_iconst (v := 0) d_H_halt_2 (by decide) ?_
  refine P_iconst (v := 0) d_H_halt_3 (by decide) ?_
  refine cl_H_append (c_H_append _ _ _ _ _ n hn h) d_H_halt_4 (Nat.le_of_ble_eq_true rfl) ?_
  exact P_iret d_H_halt_7 (by rfl) (by rfl)
set_option maxHeartbeats 400000 in
set_option maxRecDepth 10000 in
theorem c_H_giveBack (σ μ : SG) (n : Nat) (hn : n ≤ 64) (h : σ 0 0 = nI n) : CF k_H_giveBack [.inr 0] (σ, μ) (some (apR σ n 7)) (apS σ n 7 0 0, μ) := by
  refine CF.of rfl rfl (Nat.le_of_ble_eq_true rfl) (L := [some (.inr 0)]) rfl ?_
  refine P_aload_n d_H_giveBack_0 rfl ?_
  refine P_bipush (v := 7) d_H_giveBack_1 (by decide) ?_
  refine P_iconst (v := 0) d_H_giveBack_3 (by decide) ?_
  refine P_iconst (v := 0) d_H_giveBack_4 (by decide) ?_
  refine cl_H_append (c_H_append _ _ _ _ _ n hn h) d_H_giveBack_5 (Nat.le_of_ble_eq_true rfl) ?_
  exact P_iret d_H_giveBack_8 (by rfl) (by rfl)
set_option maxHeartbeats 400000 in
set_option maxRecDepth 10000 in
theorem c_H_inc (σ μ : SG) (r : Int32) (n : Nat) (hn : n ≤ 64) (h : σ 0 0 = nI n) : CF k_H_inc [.inr 0, .inl r] (σ, μ) (some (if f_badReg r = 0 then apR σ n 1 else -1)) (if f_badReg r = 0 then apS σ n 1 r 0 else σ, μ) := by
  refine CF.of rfl rfl (Nat.le_of_ble_eq_true rfl) (L := [some (.inr 0), some (.inl r)]) rfl ?_
  refine P_aload_n d_H_inc_0 rfl ?_
  refine P_iload_n d_H_inc_1 rfl ?_
  refine cl_H_badReg (c_H_badReg _ _ _) d_H_inc_2 (Nat.le_of_ble_eq_true rfl) ?_
  refine P_if_eq 12 d_H_inc_5 (by decide) (fun c5 => ?_) (fun c5 => ?_)
  · refine P_aload_n d_H_inc_12 rfl ?_
    refine P_iconst (v := 1) d_H_inc_13 (by decide) ?_
    refine P_iload_n d_H_inc_14 rfl ?_
    refine P_iconst (v := 0) d_H_inc_15 (by decide) ?_
    refine cl_H_append (c_H_append _ _ _ _ _ n hn h) d_H_inc_16 (Nat.le_of_ble_eq_true rfl) ?_
    exact P_iret d_H_inc_19 (by simp [*]) (by simp [*])
  · refine P_iconst (v := (-1)) d_H_inc_8 (by decide) ?_
    refine P_goto 19 d_H_inc_9 (by decide) ?_
    exact P_iret d_H_inc_19 (by simp [*]) (by simp [*])
set_option maxHeartbeats 400000 in
set_option maxRecDepth 10000 in
theorem c_H_dec (σ μ : SG) (r : Int32) (n : Nat) (hn : n ≤ 64) (h : σ 0 0 = nI n) : CF k_H_dec [.inr 0, .inl r] (σ, μ) (some (if f_badReg r = 0 then apR σ n 2 else -1)) (if f_badReg r = 0 then apS σ n 2 r 0 else σ, μ) := by
  refine CF.of rfl rfl (Nat.le_of_ble_eq_true rfl) (L := [some (.inr 0), some (.inl r)]) rfl ?_
  refine P_aload_n d_H_dec_0 rfl ?_
  refine P_iload_n d_H_dec_1 rfl ?_
  refine cl_H_badReg (c_H_badReg _ _ _) d_H_dec_2 (Nat.le_of_ble_eq_true rfl) ?_
  refine P_if_eq 12 d_H_dec_5 (by decide) (fun c5 => ?_) (fun c5 => ?_)
  · refine P_aload_n d_H_dec_12 rfl ?_
    refine P_iconst (v := 2) d_H_dec_13 (by decide) ?_
    refine P_iload_n d_H_dec_14 rfl ?_
    refine P_iconst (v := 0) d_H_dec_15 (by decide) ?_
    refine cl_H_append (c_H_append _ _ _ _ _ n hn h) d_H_dec_16 (Nat.le_of_ble_eq_true rfl) ?_
    exact P_iret d_H_dec_19 (by simp [*]) (by simp [*])
  · refine P_iconst (v := (-1)) d_H_dec_8 (by decide) ?_
    refine P_goto 19 d_H_dec_9 (by decide) ?_
    exact P_iret d_H_dec_19 (by simp [*]) (by simp [*])
set_option maxHeartbeats 400000 in
set_option maxRecDepth 10000 in
theorem c_H_where (σ μ : SG) (r : Int32) (n : Nat) (hn : n ≤ 64) (h : σ 0 0 = nI n) : CF k_H_where [.inr 0, .inl r] (σ, μ) (some (if f_badReg r = 0 then apR σ n 8 else -1)) (if f_badReg r = 0 then apS σ n 8 r 0 else σ, μ) := by
  refine CF.of rfl rfl (Nat.le_of_ble_eq_true rfl) (L := [some (.inr 0), some (.inl r)]) rfl ?_
  refine P_aload_n d_H_where_0 rfl ?_
  refine P_iload_n d_H_where_1 rfl ?_
  refine cl_H_badReg (c_H_badReg _ _ _) d_H_where_2 (Nat.le_of_ble_eq_true rfl) ?_
  refine P_if_eq 12 d_H_where_5 (by decide) (fun c5 => ?_) (fun c5 => ?_)
  · refine P_aload_n d_H_where_12 rfl ?_
    refine P_bipush (v := 8) d_H_where_13 (by decide) ?_
    refine P_iload_n d_H_where_15 rfl ?_
    refine P_iconst (v := 0) d_H_where_16 (by decide) ?_
    refine cl_H_append (c_H_append _ _ _ _ _ n hn h) d_H_where_17 (Nat.le_of_ble_eq_true rfl) ?_
    exact P_iret d_H_where_20 (by simp [*]) (by simp [*])
  · refine P_iconst (v := (-1)) d_H_where_8 (by decide) ?_
    refine P_goto 20 d_H_where_9 (by decide) ?_
    exact P_iret d_H_where_20 (by simp [*]) (by simp [*])
set_option maxHeartbeats 400000 in
set_option maxRecDepth 10000 in
theorem c_H_move (σ μ : SG) (r t : Int32) (n : Nat) (hn : n ≤ 64) (h : σ 0 0 = nI n) : CF k_H_move [.inr 0, .inl r, .inl t] (σ, μ) (some (if f_badReg r = 0 then (if f_badReg t = 0 then apR σ n 3 else -1) else -1)) (if f_badReg r = 0 then (if f_badReg t = 0 then apS σ n 3 (r + 4 * t) 0 else σ) else σ, μ) := by
  refine CF.of rfl rfl (Nat.le_of_ble_eq_true rfl) (L := [some (.inr 0), some (.inl r), some (.inl t)]) rfl ?_
  refine P_aload_n d_H_move_0 rfl ?_
  refine P_iload_n d_H_move_1 rfl ?_
  refine cl_H_badReg (c_H_badReg _ _ _) d_H_move_2 (Nat.le_of_ble_eq_true rfl) ?_
  refine P_if_ne 16 d_H_move_5 (by decide) (fun c5 => ?_) (fun c5 => ?_)
  · refine P_iconst (v := (-1)) d_H_move_16 (by decide) ?_
    refine P_goto 31 d_H_move_17 (by decide) ?_
    exact P_iret d_H_move_31 (by simp [*]) (by simp [*])
  · refine P_aload_n d_H_move_8 rfl ?_
    refine P_iload_n d_H_move_9 rfl ?_
    refine cl_H_badReg (c_H_badReg _ _ _) d_H_move_10 (Nat.le_of_ble_eq_true rfl) ?_
    refine P_if_eq 20 d_H_move_13 (by decide) (fun c13 => ?_) (fun c13 => ?_)
    · refine P_aload_n d_H_move_20 rfl ?_
      refine P_iconst (v := 3) d_H_move_21 (by decide) ?_
      refine P_iload_n d_H_move_22 rfl ?_
      refine P_iconst (v := 4) d_H_move_23 (by decide) ?_
      refine P_iload_n d_H_move_24 rfl ?_
      refine P_imul d_H_move_25 ?_
      refine P_iadd d_H_move_26 ?_
      refine P_iconst (v := 0) d_H_move_27 (by decide) ?_
      refine cl_H_append (c_H_append _ _ _ _ _ n hn h) d_H_move_28 (Nat.le_of_ble_eq_true rfl) ?_
      exact P_iret d_H_move_31 (by simp [*]) (by simp [*])
    · refine P_iconst (v := (-1)) d_H_move_16 (by decide) ?_
      refine P_goto 31 d_H_move_17 (by decide) ?_
      exact P_iret d_H_move_31 (by simp [*]) (by simp [*])
set_option maxHeartbeats 400000 in
set_option maxRecDepth 10000 in
theorem c_H_jump (σ μ : SG) (t : Int32) (n : Nat) (hn : n ≤ 64) (h : σ 0 0 = nI n) : CF k_H_jump [.inr 0, .inl t] (σ, μ) (some (if f_badTarget t = 0 then apR σ n 4 else -1)) (if f_badTarget t = 0 then apS σ n 4 (f_asByte t) 0 else σ, μ) := by
  refine CF.of rfl rfl (Nat.le_of_ble_eq_true rfl) (L := [some (.inr 0), some (.inl t), none]) rfl ?_
  refine P_aload_n d_H_jump_0 rfl ?_
  refine P_iload_n d_H_jump_1 rfl ?_
  refine cl_H_badTarget (c_H_badTarget _ _ _) d_H_jump_2 (Nat.le_of_ble_eq_true rfl) ?_
  refine P_if_eq 10 d_H_jump_5 (by decide) (fun c5 => ?_) (fun c5 => ?_)
  · refine P_aload_n d_H_jump_10 rfl ?_
    refine P_iload_n d_H_jump_11 rfl ?_
    refine cl_H_asByte (c_H_asByte _ _ _) d_H_jump_12 (Nat.le_of_ble_eq_true rfl) ?_
    refine P_istore_n (L' := [some (.inr 0), some (.inl _), some (.inl _)]) d_H_jump_15 (by decide) rfl ?_
    refine P_aload_n d_H_jump_16 rfl ?_
    refine P_iconst (v := 4) d_H_jump_17 (by decide) ?_
    refine P_iload_n d_H_jump_18 rfl ?_
    refine P_iconst (v := 0) d_H_jump_19 (by decide) ?_
    refine cl_H_append (c_H_append _ _ _ _ _ n hn h) d_H_jump_20 (Nat.le_of_ble_eq_true rfl) ?_
    exact P_iret d_H_jump_23 (by simp [*]) (by simp [*])
  · refine P_iconst (v := (-1)) d_H_jump_8 (by decide) ?_
    exact P_iret d_H_jump_9 (by simp [*]) (by simp [*])
set_option maxHeartbeats 400000 in
set_option maxRecDepth 10000 in
theorem c_H_call (σ μ : SG) (t : Int32) (n : Nat) (hn : n ≤ 64) (h : σ 0 0 = nI n) : CF k_H_call [.inr 0, .inl t] (σ, μ) (some (if f_badTarget t = 0 then apR σ n 6 else -1)) (if f_badTarget t = 0 then apS σ n 6 (f_asByte t) 0 else σ, μ) := by
  refine CF.of rfl rfl (Nat.le_of_ble_eq_true rfl) (L := [some (.inr 0), some (.inl t), none]) rfl ?_
  refine P_aload_n d_H_call_0 rfl ?_
  refine P_iload_n d_H_call_1 rfl ?_
  refine cl_H_badTarget (c_H_badTarget _ _ _) d_H_call_2 (Nat.le_of_ble_eq_true rfl) ?_
  refine P_if_eq 10 d_H_call_5 (by decide) (fun c5 => ?_) (fun c5 => ?_)
  · refine P_aload_n d_H_call_10 rfl ?_
    refine P_iload_n d_H_call_11 rfl ?_
    refine cl_H_asByte (c_H_asByte _ _ _) d_H_call_12 (Nat.le_of_ble_eq_true rfl) ?_
    refine P_istore_n (L' := [some (.inr 0), some (.inl _), some (.inl _)]) d_H_call_15 (by decide) rfl ?_
    refine P_aload_n d_H_call_16 rfl ?_
    refine P_bipush (v := 6) d_H_call_17 (by decide) ?_
    refine P_iload_n d_H_call_19 rfl ?_
    refine P_iconst (v := 0) d_H_call_20 (by decide) ?_
    refine cl_H_append (c_H_append _ _ _ _ _ n hn h) d_H_call_21 (Nat.le_of_ble_eq_true rfl) ?_
    exact P_iret d_H_call_24 (by simp [*]) (by simp [*])
  · refine P_iconst (v := (-1)) d_H_call_8 (by decide) ?_
    exact P_iret d_H_call_9 (by simp [*]) (by simp [*])
set_option maxHeartbeats 400000 in
set_option maxRecDepth 10000 in
theorem c_H_branch (σ μ : SG) (r t : Int32) (n : Nat) (hn : n ≤ 64) (h : σ 0 0 = nI n) : CF k_H_branch [.inr 0, .inl r, .inl t] (σ, μ) (some (if f_badReg r = 0 then (if f_badTarget t = 0 then apR σ n 5 else -1) else -1)) (if f_badReg r = 0 then (if f_badTarget t = 0 then apS σ n 5 r (f_asByte t) else σ) else σ, μ) := by
  refine CF.of rfl rfl (Nat.le_of_ble_eq_true rfl) (L := [some (.inr 0), some (.inl r), some (.inl t), none]) rfl ?_
  refine P_aload_n d_H_branch_0 rfl ?_
  refine P_iload_n d_H_branch_1 rfl ?_
  refine cl_H_badReg (c_H_badReg _ _ _) d_H_branch_2 (Nat.le_of_ble_eq_true rfl) ?_
  refine P_if_ne 16 d_H_branch_5 (by decide) (fun c5 => ?_) (fun c5 => ?_)
  · refine P_iconst (v := (-1)) d_H_branch_16 (by decide) ?_
    exact P_iret d_H_branch_17 (by simp [*]) (by simp [*])
  · refine P_aload_n d_H_branch_8 rfl ?_
    refine P_iload_n d_H_branch_9 rfl ?_
    refine cl_H_badTarget (c_H_badTarget _ _ _) d_H_branch_10 (Nat.le_of_ble_eq_true rfl) ?_
    refine P_if_eq 18 d_H_branch_13 (by decide) (fun c13 => ?_) (fun c13 => ?_)
    · refine P_aload_n d_H_branch_18 rfl ?_
      refine P_iload_n d_H_branch_19 rfl ?_
      refine cl_H_asByte (c_H_asByte _ _ _) d_H_branch_20 (Nat.le_of_ble_eq_true rfl) ?_
      refine P_istore_n (L' := [some (.inr 0), some (.inl _), some (.inl _), some (.inl _)]) d_H_branch_23 (by decide) rfl ?_
      refine P_aload_n d_H_branch_24 rfl ?_
      refine P_iconst (v := 5) d_H_branch_25 (by decide) ?_
      refine P_iload_n d_H_branch_26 rfl ?_
      refine P_iload_n d_H_branch_27 rfl ?_
      refine cl_H_append (c_H_append _ _ _ _ _ n hn h) d_H_branch_28 (Nat.le_of_ble_eq_true rfl) ?_
      exact P_iret d_H_branch_31 (by simp [*]) (by simp [*])
    · refine P_iconst (v := (-1)) d_H_branch_16 (by decide) ?_
      exact P_iret d_H_branch_17 (by simp [*]) (by simp [*])
set_option maxHeartbeats 400000 in
set_option maxRecDepth 10000 in
theorem c_H_clear (σ μ : SG) : CF k_H_clear [.inr 0] (σ, μ) (some (if cntH σ 4 ≤ 0 then σ 0 0 else -3)) (if cntH σ 4 ≤ 0 then ss σ 0 0 0 else σ, μ) := by
  refine CF.of rfl rfl (Nat.le_of_ble_eq_true rfl) (L := [some (.inr 0), none, none]) rfl ?_
  refine P_aload_n d_H_clear_0 rfl ?_
  refine cl_H_hooks (c_H_hooks _ _) d_H_clear_1 (Nat.le_of_ble_eq_true rfl) ?_
  refine P_istore_n (L' := [some (.inr 0), some (.inl _), none]) d_H_clear_4 (by decide) rfl ?_
  refine P_iload_n d_H_clear_5 rfl ?_
  refine P_if_le 12 d_H_clear_6 (by decide) (fun c6 => ?_) (fun c6 => ?_)
  · refine P_aload_n d_H_clear_12 rfl ?_
    refine g_H_length d_H_clear_13 ?_
    refine P_istore_n (L' := [some (.inr 0), some (.inl _), some (.inl _)]) d_H_clear_16 (by decide) rfl ?_
    refine P_aload_n d_H_clear_17 rfl ?_
    refine P_iconst (v := 0) d_H_clear_18 (by decide) ?_
    refine s_H_length d_H_clear_19 ?_
    refine P_iload_n d_H_clear_22 rfl ?_
    exact P_iret d_H_clear_23 (by simp [*]) (by simp [*])
  · refine P_bipush (v := (-3)) d_H_clear_9 (by decide) ?_
    exact P_iret d_H_clear_11 (by simp [*]) (by simp [*])
theorem badReg_in {r : Int32} (h : f_badReg r = 0) : vp_in r 4 := by
  unfold f_badReg at h
  split at h
  · exact absurd h (by decide)
  · split at h
    · exact vp_of 4 rfl (by assumption) (by grind)
    · exact absurd h (by decide)
set_option maxHeartbeats 400000 in
set_option maxRecDepth 10000 in
theorem c_H_setRegister (σ μ : SG) (r v : Int32) : CF k_H_setRegister [.inr 0, .inl r, .inl v] (σ, μ) (some (if f_badReg r = 0 then 0 else -1)) (if f_badReg r = 0 then ss σ 10 r.toNatClampNeg v else σ, μ) := by
  refine CF.of rfl rfl (Nat.le_of_ble_eq_true rfl) (L := [some (.inr 0), some (.inl r), some (.inl v)]) rfl ?_
  refine P_aload_n d_H_setRegister_0 rfl ?_
  refine P_iload_n d_H_setRegister_1 rfl ?_
  refine cl_H_badReg (c_H_badReg _ _ _) d_H_setRegister_2 (Nat.le_of_ble_eq_true rfl) ?_
  refine P_if_eq 10 d_H_setRegister_5 (by decide) (fun c5 => ?_) (fun c5 => ?_)
  · refine P_aload_n d_H_setRegister_10 rfl ?_
    refine g_H_reg d_H_setRegister_11 ?_
    refine P_iload_n d_H_setRegister_14 rfl ?_
    refine P_iload_n d_H_setRegister_15 rfl ?_
    refine P_iast ar_10 (badReg_in c5) d_H_setRegister_16 ?_
    refine P_iconst (v := 0) d_H_setRegister_17 (by decide) ?_
    exact P_iret d_H_setRegister_18 (by simp [*]) (by simp [*])
  · refine P_iconst (v := (-1)) d_H_setRegister_8 (by decide) ?_
    exact P_iret d_H_setRegister_9 (by simp [*]) (by simp [*])
set_option maxHeartbeats 400000 in
set_option maxRecDepth 10000 in
theorem c_H_register (σ μ : SG) (r : Int32) : CF k_H_register [.inr 0, .inl r] (σ, μ) (some (if f_badReg r = 0 then σ 10 r.toNatClampNeg else 0)) (σ, μ) := by
  refine CF.of rfl rfl (Nat.le_of_ble_eq_true rfl) (L := [some (.inr 0), some (.inl r)]) rfl ?_
  refine P_aload_n d_H_register_0 rfl ?_
  refine P_iload_n d_H_register_1 rfl ?_
  refine cl_H_badReg (c_H_badReg _ _ _) d_H_register_2 (Nat.le_of_ble_eq_true rfl) ?_
  refine P_if_eq 12 d_H_register_5 (by decide) (fun c5 => ?_) (fun c5 => ?_)
  · refine P_aload_n d_H_register_12 rfl ?_
    refine g_H_reg d_H_register_13 ?_
    refine P_iload_n d_H_register_16 rfl ?_
    refine P_iald ar_10 (badReg_in c5) d_H_register_17 ?_
    exact P_iret d_H_register_18 (by simp [*]) (by rfl)
  · refine P_iconst (v := 0) d_H_register_8 (by decide) ?_
    refine P_goto 18 d_H_register_9 (by decide) ?_
    exact P_iret d_H_register_18 (by simp [*]) (by rfl)
theorem slN_spec (σ : SG) (a : Int32) (N : Nat) : (slN σ a N = -1 ∧ ∀ h, h < N → ¬ σ 7 h = a) ∨ (∃ h, h < N ∧ slN σ a N = nI h ∧ σ 7 h = a) := by
  induction N with
  | zero => exact Or.inl ⟨rfl, fun h hh => absurd hh (Nat.not_lt_zero h)⟩
  | succ N ih =>
    unfold slN
    split
    · rename_i c
      exact Or.inr ⟨N, Nat.lt_succ_self N, rfl, c⟩
    · rename_i c
      rcases ih with ⟨h1, h2⟩ | ⟨h, h1, h2, h3⟩
      · refine Or.inl ⟨h1, fun h hh => ?_⟩
        rcases Nat.lt_succ_iff_lt_or_eq.mp hh with q | q
        · exact h2 h q
        · rw [q]; exact c
      · exact Or.inr ⟨h, by omega, h2, h3⟩
theorem slN_in {σ : SG} {a : Int32} (h : ¬ slN σ a 4 < 0) : vp_in (slN σ a 4) 4 := by
  rcases slN_spec σ a 4 with ⟨h1, -⟩ | ⟨j, h1, h2, -⟩
  · exact absurd (by rw [h1]; decide) h
  · rw [h2]; exact vp_in_nI h1 (by decide)
set_option maxHeartbeats 400000 in
set_option maxRecDepth 10000 in
theorem c_H_calls (σ μ : SG) (a : Int32) : CF k_H_calls [.inr 0, .inl a] (σ, μ) (some (if a < 0 then -1 else if a < 64 then (if 0 ≤ slN σ a 4 then σ 9 (slN σ a 4).toNatClampNeg else -3) else -1)) (σ, μ) := by
  refine CF.of rfl rfl (Nat.le_of_ble_eq_true rfl) (L := [some (.inr 0), some (.inl a), none]) rfl ?_
  refine P_iload_n d_H_calls_0 rfl ?_
  refine P_if_lt 10 d_H_calls_1 (by decide) (fun c1 => ?_) (fun c1 => ?_)
  · refine P_iconst (v := (-1)) d_H_calls_10 (by decide) ?_
    exact P_iret d_H_calls_11 (by simp [*]) (by rfl)
  · refine P_iload_n d_H_calls_4 rfl ?_
    refine P_bipush (v := 64) d_H_calls_5 (by decide) ?_
    refine P_icmp_lt 12 d_H_calls_7 (by decide) (fun c7 => ?_) (fun c7 => ?_)
    · refine P_aload_n d_H_calls_12 rfl ?_
      refine P_iload_n d_H_calls_13 rfl ?_
      refine cl_H_slotOf (c_H_slotOf _ _ _) d_H_calls_14 (Nat.le_of_ble_eq_true rfl) ?_
      refine P_istore_n (L' := [some (.inr 0), some (.inl _), some (.inl _)]) d_H_calls_17 (by decide) rfl ?_
      refine P_iload_n d_H_calls_18 rfl ?_
      refine P_if_ge 27 d_H_calls_19 (by decide) (fun c19 => ?_) (fun c19 => ?_)
      · refine P_aload_n d_H_calls_27 rfl ?_
        refine g_H_count d_H_calls_28 ?_
        refine P_iload_n d_H_calls_31 rfl ?_
        refine P_iald ar_9 (slN_in (Int32.not_lt.mpr c19)) d_H_calls_32 ?_
        exact P_iret d_H_calls_33 (by simp [*]) (by rfl)
      · refine P_bipush (v := (-3)) d_H_calls_22 (by decide) ?_
        refine P_goto 33 d_H_calls_24 (by decide) ?_
        exact P_iret d_H_calls_33 (by simp [*]) (by rfl)
    · refine P_iconst (v := (-1)) d_H_calls_10 (by decide) ?_
      exact P_iret d_H_calls_11 (by simp [*]) (by rfl)
def f_fa (σ : SG) (x : Int32) : Int32 := f_fetch σ x * 256 + f_fetch σ (x + 1) - 256
def f_plain (σ : SG) (k : Int32) : SG :=
  if k = 0 then ss σ 0 15 1
  else if k = 7 then f_leave σ
  else if k = 4 then ss σ 0 13 (σ 0 13 + nI (ln k) + f_signed (f_fetch σ (σ 0 13 + 1)))
  else if k = 5 then (if σ 10 (f_fetch σ (σ 0 13 + 1) &&& 3).toNatClampNeg = 0 then ss σ 0 13 (σ 0 13 + nI (ln k)) else ss σ 0 13 (σ 0 13 + nI (ln k) + f_signed (f_fetch σ (σ 0 13 + 2))))
  else if k = 6 then f_enter σ (σ 0 13 + nI (ln k)) (σ 0 13 + nI (ln k) + f_signed (f_fetch σ (σ 0 13 + 1)))
  else ss (f_change σ k (f_fetch σ (σ 0 13 + 1) &&& 3) (f_fetch σ (σ 0 13 + 1)) (σ 0 13 + nI (ln k))) 0 13 (σ 0 13 + nI (ln k))
def f_far (σ : SG) (k : Int32) : SG :=
  if k = 14 then ss σ 0 13 (f_fa σ (σ 0 13 + 1))
  else if k = 12 then f_enter σ (σ 0 13 + 3) (f_fa σ (σ 0 13 + 1))
  else if k = 13 then ss (ss σ 0 13 (σ 0 13 + 4)) 10 (f_fetch σ (σ 0 13 + 1) &&& 3).toNatClampNeg (f_fa σ (σ 0 13 + 2))
  else if σ 10 (f_fetch σ (σ 0 13 + 1) &&& 3).toNatClampNeg = 0 then ss σ 0 13 (σ 0 13 + 4)
  else ss (ss σ 0 13 (σ 0 13 + 4)) 0 13 (f_fa σ (σ 0 13 + 2))
def f_exec (σ : SG) : SG :=
  if f_fetch σ (σ 0 13) = 9 then ss σ 0 13 (f_fa σ (σ 0 13 + 1))
  else if f_fetch σ (σ 0 13) = 10 then ss (ss σ 9 (f_fetch σ (σ 0 13 + 1) &&& 3).toNatClampNeg (σ 9 (f_fetch σ (σ 0 13 + 1) &&& 3).toNatClampNeg + 1)) 0 13 (σ 0 13 + 2)
  else if f_fetch σ (σ 0 13) < 11 then f_plain (ss σ 0 14 (σ 0 14 + 1)) (f_fetch σ (σ 0 13))
  else f_far (ss σ 0 14 (σ 0 14 + 1)) (f_fetch σ (σ 0 13))
def f_tick (σ : SG) : SG := if σ 0 14 = 200 then ss σ 0 15 4 else if 512 ≤ σ 0 13 then f_exec σ else if f_isStart σ (σ 0 13) = 0 then ss σ 0 15 2 else f_exec σ
def f_loop : Nat → SG → SG
  | 0, σ => σ
  | n + 1, σ => if σ 0 15 = 0 then f_loop n (f_tick σ) else σ
def f_start (σ : SG) (a : Int32) : SG := ss (ss (ss (ss σ 0 13 (enN σ a 4)) 0 11 0) 0 14 0) 0 15 0
set_option maxHeartbeats 400000 in
set_option maxRecDepth 10000 in
theorem c_H_fetchAddress (σ μ : SG) (x : Int32) : CF k_H_fetchAddress [.inr 0, .inl x] (σ, μ) (some (f_fa σ x)) (σ, μ) := by
  refine CF.of rfl rfl (Nat.le_of_ble_eq_true rfl) (L := [some (.inr 0), some (.inl x), none, none]) rfl ?_
  refine P_aload_n d_H_fetchAddress_0 rfl ?_
  refine P_iload_n d_H_fetchAddress_1 rfl ?_
  refine cl_H_fetch (c_H_fetch _ _ _) d_H_fetchAddress_2 (Nat.le_of_ble_eq_true rfl) ?_
  refine P_istore_n (L' := [some (.inr 0), some (.inl _), some (.inl _), none]) d_H_fetchAddress_5 (by decide) rfl ?_
  refine P_aload_n d_H_fetchAddress_6 rfl ?_
  refine P_iload_n d_H_fetchAddress_7 rfl ?_
  refine P_iconst (v := 1) d_H_fetchAddress_8 (by decide) ?_
  refine P_iadd d_H_fetchAddress_9 ?_
  refine cl_H_fetch (c_H_fetch _ _ _) d_H_fetchAddress_10 (Nat.le_of_ble_eq_true rfl) ?_
  refine P_istore_n (L' := [some (.inr 0), some (.inl _), some (.inl _), some (.inl _)]) d_H_fetchAddress_13 (by decide) rfl ?_
  refine P_iload_n d_H_fetchAddress_14 rfl ?_
  refine P_sipush (v := 256) d_H_fetchAddress_15 (by decide) ?_
  refine P_imul d_H_fetchAddress_18 ?_
  refine P_iload_n d_H_fetchAddress_19 rfl ?_
  refine P_iadd d_H_fetchAddress_20 ?_
  refine P_sipush (v := 256) d_H_fetchAddress_21 (by decide) ?_
  refine P_isub d_H_fetchAddress_24 ?_
  exact P_iret d_H_fetchAddress_25 (by rfl) (by rfl)
set_option maxHeartbeats 400000 in
set_option maxRecDepth 10000 in
theorem c_H_executePlain (σ μ : SG) (k : Int32) (h0 : ¬ σ 0 11 < 0) (h8 : σ 0 11 ≤ 8) : CF k_H_executePlain [.inr 0, .inl k] (σ, μ) none (f_plain σ k, μ) := by
  refine CF.of rfl rfl (Nat.le_of_ble_eq_true rfl) (L := [some (.inr 0), some (.inl k), none, none, none, none, none]) rfl ?_
  refine P_aload_n d_H_executePlain_0 rfl ?_
  refine g_H_pc d_H_executePlain_1 ?_
  refine P_aload_n d_H_executePlain_4 rfl ?_
  refine P_iload_n d_H_executePlain_5 rfl ?_
  refine cl_H_lengthOf (c_H_lengthOf _ _ _) d_H_executePlain_6 (Nat.le_of_ble_eq_true rfl) ?_
  refine P_iadd d_H_executePlain_9 ?_
  refine P_istore_n (L' := [some (.inr 0), some (.inl _), some (.inl _), none, none, none, none]) d_H_executePlain_10 (by decide) rfl ?_
  refine P_aload_n d_H_executePlain_11 rfl ?_
  refine P_aload_n d_H_executePlain_12 rfl ?_
  refine g_H_pc d_H_executePlain_13 ?_
  refine P_iconst (v := 1) d_H_executePlain_16 (by decide) ?_
  refine P_iadd d_H_executePlain_17 ?_
  refine cl_H_fetch (c_H_fetch _ _ _) d_H_executePlain_18 (Nat.le_of_ble_eq_true rfl) ?_
  refine P_istore_n (L' := [some (.inr 0), some (.inl _), some (.inl _), some (.inl _), none, none, none]) d_H_executePlain_21 (by decide) rfl ?_
  refine P_iload_n d_H_executePlain_22 rfl ?_
  refine P_iconst (v := 3) d_H_executePlain_23 (by decide) ?_
  refine P_iand d_H_executePlain_24 ?_
  refine P_istore (L' := [some (.inr 0), some (.inl _), some (.inl _), some (.inl _), some (.inl _), none, none]) d_H_executePlain_25 (by decide) rfl ?_
  refine P_iload_n d_H_executePlain_27 rfl ?_
  refine P_if_ne 39 d_H_executePlain_28 (by decide) (fun c28 => ?_) (fun c28 => ?_)
  · refine P_iload_n d_H_executePlain_39 rfl ?_
    refine P_bipush (v := 7) d_H_executePlain_40 (by decide) ?_
    refine P_icmp_ne 52 d_H_executePlain_42 (by decide) (fun c42 => ?_) (fun c42 => ?_)
    · refine P_iload_n d_H_executePlain_52 rfl ?_
      refine P_iconst (v := 4) d_H_executePlain_53 (by decide) ?_
      refine P_icmp_ne 75 d_H_executePlain_54 (by decide) (fun c54 => ?_) (fun c54 => ?_)
      · refine P_iload_n d_H_executePlain_75 rfl ?_
        refine P_iconst (v := 5) d_H_executePlain_76 (by decide) ?_
        refine P_icmp_ne 125 d_H_executePlain_77 (by decide) (fun c77 => ?_) (fun c77 => ?_)
        · refine P_iload_n d_H_executePlain_125 rfl ?_
          refine P_bipush (v := 6) d_H_executePlain_126 (by decide) ?_
          refine P_icmp_ne 150 d_H_executePlain_128 (by decide) (fun c128 => ?_) (fun c128 => ?_)
          · refine P_aload_n d_H_executePlain_150 rfl ?_
            refine P_iload_n d_H_executePlain_151 rfl ?_
            refine P_iload d_H_executePlain_152 rfl ?_
            refine P_iload_n d_H_executePlain_154 rfl ?_
            refine P_iload_n d_H_executePlain_155 rfl ?_
            refine cl_H_change (c_H_change _ _ _ _ _ _ (vp_and3 _)) d_H_executePlain_156 (Nat.le_of_ble_eq_true rfl) ?_
            refine P_aload_n d_H_executePlain_159 rfl ?_
            refine P_iload_n d_H_executePlain_160 rfl ?_
            refine s_H_pc d_H_executePlain_161 ?_
            exact P_vret d_H_executePlain_164 (by rfl) (by simp [f_plain, *])
          · refine P_aload_n d_H_executePlain_131 rfl ?_
            refine P_iload_n d_H_executePlain_132 rfl ?_
            refine cl_H_signed (c_H_signed _ _ _) d_H_executePlain_133 (Nat.le_of_ble_eq_true rfl) ?_
            refine P_istore (L' := [some (.inr 0), some (.inl _), some (.inl _), some (.inl _), some (.inl _), some (.inl _), none]) d_H_executePlain_136 (by decide) rfl ?_
            refine P_aload_n d_H_executePlain_138 rfl ?_
            refine P_iload_n d_H_executePlain_139 rfl ?_
            refine P_iload_n d_H_executePlain_140 rfl ?_
            refine P_iload d_H_executePlain_141 rfl ?_
            refine P_iadd d_H_executePlain_143 ?_
            refine cl_H_enter (c_H_enter _ _ _ _ h0 h8) d_H_executePlain_144 (Nat.le_of_ble_eq_true rfl) ?_
            refine P_goto 164 d_H_executePlain_147 (by decide) ?_
            exact P_vret d_H_executePlain_164 (by rfl) (by simp [f_plain, *])
        · refine P_aload_n d_H_executePlain_80 rfl ?_
          refine P_aload_n d_H_executePlain_81 rfl ?_
          refine g_H_pc d_H_executePlain_82 ?_
          refine P_iconst (v := 2) d_H_executePlain_85 (by decide) ?_
          refine P_iadd d_H_executePlain_86 ?_
          refine cl_H_fetch (c_H_fetch _ _ _) d_H_executePlain_87 (Nat.le_of_ble_eq_true rfl) ?_
          refine P_istore (L' := [some (.inr 0), some (.inl _), some (.inl _), some (.inl _), some (.inl _), some (.inl _), none]) d_H_executePlain_90 (by decide) rfl ?_
          refine P_aload_n d_H_executePlain_92 rfl ?_
          refine P_iload d_H_executePlain_93 rfl ?_
          refine cl_H_signed (c_H_signed _ _ _) d_H_executePlain_95 (Nat.le_of_ble_eq_true rfl) ?_
          refine P_istore (L' := [some (.inr 0), some (.inl _), some (.inl _), some (.inl _), some (.inl _), some (.inl _), some (.inl _)]) d_H_executePlain_98 (by decide) rfl ?_
          refine P_aload_n d_H_executePlain_100 rfl ?_
          refine P_aload_n d_H_executePlain_101 rfl ?_
          refine g_H_reg d_H_executePlain_102 ?_
          refine P_iload d_H_executePlain_105 rfl ?_
          refine P_iald ar_10 (vp_and3 _) d_H_executePlain_107 ?_
          refine P_if_eq 118 d_H_executePlain_108 (by decide) (fun c108 => ?_) (fun c108 => ?_)
          · refine P_iload_n d_H_executePlain_118 rfl ?_
            refine s_H_pc d_H_executePlain_119 ?_
            refine P_goto 164 d_H_executePlain_122 (by decide) ?_
            exact P_vret d_H_executePlain_164 (by rfl) (by simp [f_plain, *])
          · refine P_iload_n d_H_executePlain_111 rfl ?_
            refine P_iload d_H_executePlain_112 rfl ?_
            refine P_iadd d_H_executePlain_114 ?_
            refine P_goto 119 d_H_executePlain_115 (by decide) ?_
            refine s_H_pc d_H_executePlain_119 ?_
            refine P_goto 164 d_H_executePlain_122 (by decide) ?_
            exact P_vret d_H_executePlain_164 (by rfl) (by simp [f_plain, *])
      · refine P_aload_n d_H_executePlain_57 rfl ?_
        refine P_iload_n d_H_executePlain_58 rfl ?_
        refine cl_H_signed (c_H_signed _ _ _) d_H_executePlain_59 (Nat.le_of_ble_eq_true rfl) ?_
        refine P_istore (L' := [some (.inr 0), some (.inl _), some (.inl _), some (.inl _), some (.inl _), some (.inl _), none]) d_H_executePlain_62 (by decide) rfl ?_
        refine P_aload_n d_H_executePlain_64 rfl ?_
        refine P_iload_n d_H_executePlain_65 rfl ?_
        refine P_iload d_H_executePlain_66 rfl ?_
        refine P_iadd d_H_executePlain_68 ?_
        refine s_H_pc d_H_executePlain_69 ?_
        refine P_goto 164 d_H_executePlain_72 (by decide) ?_
        exact P_vret d_H_executePlain_164 (by rfl) (by simp [f_plain, *])
    · refine P_aload_n d_H_executePlain_45 rfl ?_
      refine cl_H_leave (c_H_leave _ _ h0 h8) d_H_executePlain_46 (Nat.le_of_ble_eq_true rfl) ?_
      refine P_goto 164 d_H_executePlain_49 (by decide) ?_
      exact P_vret d_H_executePlain_164 (by rfl) (by simp [f_plain, *])
  · refine P_aload_n d_H_executePlain_31 rfl ?_
    refine P_iconst (v := 1) d_H_executePlain_32 (by decide) ?_
    refine s_H_end d_H_executePlain_33 ?_
    refine P_goto 164 d_H_executePlain_36 (by decide) ?_
    exact P_vret d_H_executePlain_164 (by rfl) (by simp [f_plain, *])
set_option maxHeartbeats 400000 in
set_option maxRecDepth 10000 in
theorem c_H_executeFar (σ μ : SG) (k : Int32) (h0 : ¬ σ 0 11 < 0) (h8 : σ 0 11 ≤ 8) : CF k_H_executeFar [.inr 0, .inl k] (σ, μ) none (f_far σ k, μ) := by
  refine CF.of rfl rfl (Nat.le_of_ble_eq_true rfl) (L := [some (.inr 0), some (.inl k), none, none]) rfl ?_
  refine P_iload_n d_H_executeFar_0 rfl ?_
  refine P_bipush (v := 14) d_H_executeFar_1 (by decide) ?_
  refine P_icmp_ne 23 d_H_executeFar_3 (by decide) (fun c3 => ?_) (fun c3 => ?_)
  · refine P_iload_n d_H_executeFar_23 rfl ?_
    refine P_bipush (v := 12) d_H_executeFar_24 (by decide) ?_
    refine P_icmp_ne 54 d_H_executeFar_26 (by decide) (fun c26 => ?_) (fun c26 => ?_)
    · refine P_aload_n d_H_executeFar_54 rfl ?_
      refine P_aload_n d_H_executeFar_55 rfl ?_
      refine g_H_pc d_H_executeFar_56 ?_
      refine P_iconst (v := 1) d_H_executeFar_59 (by decide) ?_
      refine P_iadd d_H_executeFar_60 ?_
      refine cl_H_fetch (c_H_fetch _ _ _) d_H_executeFar_61 (Nat.le_of_ble_eq_true rfl) ?_
      refine P_iconst (v := 3) d_H_executeFar_64 (by decide) ?_
      refine P_iand d_H_executeFar_65 ?_
      refine P_istore_n (L' := [some (.inr 0), some (.inl _), some (.inl _), none]) d_H_executeFar_66 (by decide) rfl ?_
      refine P_aload_n d_H_executeFar_67 rfl ?_
      refine P_aload_n d_H_executeFar_68 rfl ?_
      refine g_H_pc d_H_executeFar_69 ?_
      refine P_iconst (v := 2) d_H_executeFar_72 (by decide) ?_
      refine P_iadd d_H_executeFar_73 ?_
      refine cl_H_fetchAddress (c_H_fetchAddress _ _ _) d_H_executeFar_74 (Nat.le_of_ble_eq_true rfl) ?_
      refine P_istore_n (L' := [some (.inr 0), some (.inl _), some (.inl _), some (.inl _)]) d_H_executeFar_77 (by decide) rfl ?_
      refine P_aload_n d_H_executeFar_78 rfl ?_
      refine P_aload_n d_H_executeFar_79 rfl ?_
      refine g_H_pc d_H_executeFar_80 ?_
      refine P_iconst (v := 4) d_H_executeFar_83 (by decide) ?_
      refine P_iadd d_H_executeFar_84 ?_
      refine s_H_pc d_H_executeFar_85 ?_
      refine P_iload_n d_H_executeFar_88 rfl ?_
      refine P_bipush (v := 13) d_H_executeFar_89 (by decide) ?_
      refine P_icmp_ne 104 d_H_executeFar_91 (by decide) (fun c91 => ?_) (fun c91 => ?_)
      · refine P_aload_n d_H_executeFar_104 rfl ?_
        refine g_H_reg d_H_executeFar_105 ?_
        refine P_iload_n d_H_executeFar_108 rfl ?_
        refine P_iald ar_10 (vp_and3 _) d_H_executeFar_109 ?_
        refine P_top (y := σ 10 (f_fetch σ (σ 0 13 + 1) &&& 3).toNatClampNeg) (rfl) ?_
        refine P_if_eq 118 d_H_executeFar_110 (by decide) (fun c110 => ?_) (fun c110 => ?_)
        · exact P_vret d_H_executeFar_118 (by rfl) (by simp [f_far, *])
        · refine P_aload_n d_H_executeFar_113 rfl ?_
          refine P_iload_n d_H_executeFar_114 rfl ?_
          refine s_H_pc d_H_executeFar_115 ?_
          exact P_vret d_H_executeFar_118 (by rfl) (by simp [f_far, *])
      · refine P_aload_n d_H_executeFar_94 rfl ?_
        refine g_H_reg d_H_executeFar_95 ?_
        refine P_iload_n d_H_executeFar_98 rfl ?_
        refine P_iload_n d_H_executeFar_99 rfl ?_
        refine P_iast ar_10 (vp_and3 _) d_H_executeFar_100 ?_
        refine P_goto 118 d_H_executeFar_101 (by decide) ?_
        exact P_vret d_H_executeFar_118 (by rfl) (by simp [f_far, *])
    · refine P_aload_n d_H_executeFar_29 rfl ?_
      refine P_aload_n d_H_executeFar_30 rfl ?_
      refine g_H_pc d_H_executeFar_31 ?_
      refine P_iconst (v := 1) d_H_executeFar_34 (by decide) ?_
      refine P_iadd d_H_executeFar_35 ?_
      refine cl_H_fetchAddress (c_H_fetchAddress _ _ _) d_H_executeFar_36 (Nat.le_of_ble_eq_true rfl) ?_
      refine P_istore_n (L' := [some (.inr 0), some (.inl _), some (.inl _), none]) d_H_executeFar_39 (by decide) rfl ?_
      refine P_aload_n d_H_executeFar_40 rfl ?_
      refine P_aload_n d_H_executeFar_41 rfl ?_
      refine g_H_pc d_H_executeFar_42 ?_
      refine P_iconst (v := 3) d_H_executeFar_45 (by decide) ?_
      refine P_iadd d_H_executeFar_46 ?_
      refine P_iload_n d_H_executeFar_47 rfl ?_
      refine cl_H_enter (c_H_enter _ _ _ _ h0 h8) d_H_executeFar_48 (Nat.le_of_ble_eq_true rfl) ?_
      refine P_goto 118 d_H_executeFar_51 (by decide) ?_
      exact P_vret d_H_executeFar_118 (by rfl) (by simp [f_far, *])
  · refine P_aload_n d_H_executeFar_6 rfl ?_
    refine P_aload_n d_H_executeFar_7 rfl ?_
    refine P_aload_n d_H_executeFar_8 rfl ?_
    refine g_H_pc d_H_executeFar_9 ?_
    refine P_iconst (v := 1) d_H_executeFar_12 (by decide) ?_
    refine P_iadd d_H_executeFar_13 ?_
    refine cl_H_fetchAddress (c_H_fetchAddress _ _ _) d_H_executeFar_14 (Nat.le_of_ble_eq_true rfl) ?_
    refine s_H_pc d_H_executeFar_17 ?_
    refine P_goto 118 d_H_executeFar_20 (by decide) ?_
    exact P_vret d_H_executeFar_118 (by rfl) (by simp [f_far, *])
set_option maxHeartbeats 400000 in
set_option maxRecDepth 10000 in
theorem c_H_execute (σ μ : SG) (h0 : ¬ σ 0 11 < 0) (h8 : σ 0 11 ≤ 8) : CF k_H_execute [.inr 0] (σ, μ) none (f_exec σ, μ) := by
  refine CF.of rfl rfl (Nat.le_of_ble_eq_true rfl) (L := [some (.inr 0), none, none]) rfl ?_
  refine P_aload_n d_H_execute_0 rfl ?_
  refine P_aload_n d_H_execute_1 rfl ?_
  refine g_H_pc d_H_execute_2 ?_
  refine cl_H_fetch (c_H_fetch _ _ _) d_H_execute_5 (Nat.le_of_ble_eq_true rfl) ?_
  refine P_istore_n (L' := [some (.inr 0), some (.inl _), none]) d_H_execute_8 (by decide) rfl ?_
  refine P_iload_n d_H_execute_9 rfl ?_
  refine P_bipush (v := 9) d_H_execute_10 (by decide) ?_
  refine P_icmp_ne 32 d_H_execute_12 (by decide) (fun c12 => ?_) (fun c12 => ?_)
  · refine P_iload_n d_H_execute_32 rfl ?_
    refine P_bipush (v := 10) d_H_execute_33 (by decide) ?_
    refine P_icmp_ne 78 d_H_execute_35 (by decide) (fun c35 => ?_) (fun c35 => ?_)
    · refine P_aload_n d_H_execute_78 rfl ?_
      refine P_dup d_H_execute_79 ?_
      refine g_H_done d_H_execute_80 ?_
      refine P_iconst (v := 1) d_H_execute_83 (by decide) ?_
      refine P_iadd d_H_execute_84 ?_
      refine s_H_done d_H_execute_85 ?_
      refine P_iload_n d_H_execute_88 rfl ?_
      refine P_bipush (v := 11) d_H_execute_89 (by decide) ?_
      refine P_icmp_lt 102 d_H_execute_91 (by decide) (fun c91 => ?_) (fun c91 => ?_)
      · refine P_aload_n d_H_execute_102 rfl ?_
        refine P_iload_n d_H_execute_103 rfl ?_
        refine cl_H_executePlain (c_H_executePlain _ _ _ h0 h8) d_H_execute_104 (Nat.le_of_ble_eq_true rfl) ?_
        exact P_vret d_H_execute_107 (by rfl) (by simp [f_exec, *] <;> rfl)
      · refine P_aload_n d_H_execute_94 rfl ?_
        refine P_iload_n d_H_execute_95 rfl ?_
        refine cl_H_executeFar (c_H_executeFar _ _ _ h0 h8) d_H_execute_96 (Nat.le_of_ble_eq_true rfl) ?_
        refine P_goto 107 d_H_execute_99 (by decide) ?_
        exact P_vret d_H_execute_107 (by rfl) (by simp [f_exec, *] <;> rfl)
    · refine P_aload_n d_H_execute_38 rfl ?_
      refine P_aload_n d_H_execute_39 rfl ?_
      refine g_H_pc d_H_execute_40 ?_
      refine P_iconst (v := 1) d_H_execute_43 (by decide) ?_
      refine P_iadd d_H_execute_44 ?_
      refine cl_H_fetch (c_H_fetch _ _ _) d_H_execute_45 (Nat.le_of_ble_eq_true rfl) ?_
      refine P_iconst (v := 3) d_H_execute_48 (by decide) ?_
      refine P_iand d_H_execute_49 ?_
      refine P_istore_n (L' := [some (.inr 0), some (.inl _), some (.inl _)]) d_H_execute_50 (by decide) rfl ?_
      refine P_aload_n d_H_execute_51 rfl ?_
      refine g_H_count d_H_execute_52 ?_
      refine P_iload_n d_H_execute_55 rfl ?_
      refine P_aload_n d_H_execute_56 rfl ?_
      refine g_H_count d_H_execute_57 ?_
      refine P_iload_n d_H_execute_60 rfl ?_
      refine P_iald ar_9 (vp_and3 _) d_H_execute_61 ?_
      refine P_iconst (v := 1) d_H_execute_62 (by decide) ?_
      refine P_iadd d_H_execute_63 ?_
      refine P_iast ar_9 (vp_and3 _) d_H_execute_64 ?_
      refine P_aload_n d_H_execute_65 rfl ?_
      refine P_aload_n d_H_execute_66 rfl ?_
      refine g_H_pc d_H_execute_67 ?_
      refine P_iconst (v := 2) d_H_execute_70 (by decide) ?_
      refine P_iadd d_H_execute_71 ?_
      refine s_H_pc d_H_execute_72 ?_
      refine P_goto 107 d_H_execute_75 (by decide) ?_
      exact P_vret d_H_execute_107 (by rfl) (by simp [f_exec, *] <;> rfl)
  · refine P_aload_n d_H_execute_15 rfl ?_
    refine P_aload_n d_H_execute_16 rfl ?_
    refine P_aload_n d_H_execute_17 rfl ?_
    refine g_H_pc d_H_execute_18 ?_
    refine P_iconst (v := 1) d_H_execute_21 (by decide) ?_
    refine P_iadd d_H_execute_22 ?_
    refine cl_H_fetchAddress (c_H_fetchAddress _ _ _) d_H_execute_23 (Nat.le_of_ble_eq_true rfl) ?_
    refine s_H_pc d_H_execute_26 ?_
    refine P_goto 107 d_H_execute_29 (by decide) ?_
    exact P_vret d_H_execute_107 (by rfl) (by simp [f_exec, *] <;> rfl)
def SKok (σ : SG) : Prop := (¬ σ 0 11 < 0 ∧ σ 0 11 ≤ 8) ∧ σ 0 0 ≤ 64
theorem enter_sk {σ : SG} {x y : Int32} (h : SKok σ) : SKok (f_enter σ x y) := by
  obtain ⟨⟨h0, h8⟩, hL⟩ := h
  unfold f_enter
  split
  · exact ⟨⟨h0, h8⟩, hL⟩
  · refine ⟨⟨?_, ?_⟩, hL⟩
    · show ¬ σ 0 11 + 1 < 0
      grind
    · show σ 0 11 + 1 ≤ 8
      grind
theorem leave_sk {σ : SG} (h : SKok σ) : SKok (f_leave σ) := by
  obtain ⟨⟨h0, h8⟩, hL⟩ := h
  unfold f_leave
  split
  · exact ⟨⟨h0, h8⟩, hL⟩
  · refine ⟨⟨?_, ?_⟩, hL⟩
    · show ¬ σ 0 11 - 1 < 0
      grind
    · show σ 0 11 - 1 ≤ 8
      grind
theorem change_sk {σ : SG} {a b c d : Int32} (h : SKok σ) : SKok (f_change σ a b c d) := by
  unfold f_change
  split
  · exact h
  · split
    · exact h
    · split <;> exact h
theorem plain_sk {σ : SG} {k : Int32} (h : SKok σ) : SKok (f_plain σ k) := by
  unfold f_plain
  split
  · exact h
  split
  · exact leave_sk h
  split
  · exact h
  split
  · split <;> exact h
  split
  · exact enter_sk h
  · exact change_sk h
theorem far_sk {σ : SG} {k : Int32} (h : SKok σ) : SKok (f_far σ k) := by
  unfold f_far
  split
  · exact h
  split
  · exact enter_sk h
  split
  · exact h
  split <;> exact h
theorem exec_sk {σ : SG} (h : SKok σ) : SKok (f_exec σ) := by
  unfold f_exec
  split
  · exact h
  split
  · exact h
  split
  · exact plain_sk (σ := ss σ 0 14 (σ 0 14 + 1)) h
  · exact far_sk (σ := ss σ 0 14 (σ 0 14 + 1)) h
set_option maxHeartbeats 400000 in
set_option maxRecDepth 10000 in
theorem lp_H_run (μ : SG) (a : Int32) : ∀ (n i : Nat) (σ : SG), i + n = 1000 → SKok σ → PW k_H_run (some ((f_loop n σ) 0 15)) (f_loop n σ, μ) 38 [some (.inr 0), some (.inl a), some (.inl (nI i))] [] (σ, μ) := by
  intro n
  induction n with
  | zero =>
    intro i σ hi hsk
    obtain rfl : i = 1000 := by omega
    refine P_iload_n d_H_run_38 rfl ?_
    refine P_sipush (v := 1000) d_H_run_39 (by decide) ?_
    refine P_icmp_ge 109 d_H_run_42 (by decide) (fun c42 => ?_) (fun c42 => False.elim (c42 (by decide)))
    refine P_aload_n d_H_run_109 rfl ?_
    refine g_H_end d_H_run_110 ?_
    exact P_iret d_H_run_113 (by rfl) (by rfl)
  | succ n ih =>
    intro i σ hi hsk
    have h4 : i < 1000 := by omega
    refine P_iload_n d_H_run_38 rfl ?_
    refine P_sipush (v := 1000) d_H_run_39 (by decide) ?_
    refine P_icmp_ge 109 d_H_run_42 (by decide) (fun c42 => False.elim (nI_ge h4 (by decide) c42)) (fun c42 => ?_)
    refine P_aload_n d_H_run_45 rfl ?_
    refine g_H_end d_H_run_46 ?_
    refine P_if_ne 109 d_H_run_49 (by decide) (fun c49 => ?_) (fun c49 => ?_)
    · refine P_aload_n d_H_run_109 rfl ?_
      refine g_H_end d_H_run_110 ?_
      exact P_iret d_H_run_113 (by simp [f_loop, *]) (by simp [f_loop, *])
    · refine P_aload_n d_H_run_52 rfl ?_
      refine g_H_done d_H_run_53 ?_
      refine P_sipush (v := 200) d_H_run_56 (by decide) ?_
      refine P_icmp_ne 70 d_H_run_59 (by decide) (fun c59 => ?_) (fun c59 => ?_)
      · refine P_aload_n d_H_run_70 rfl ?_
        refine g_H_pc d_H_run_71 ?_
        refine P_sipush (v := 512) d_H_run_74 (by decide) ?_
        refine P_icmp_ge 99 d_H_run_77 (by decide) (fun c77 => ?_) (fun c77 => ?_)
        · refine P_aload_n d_H_run_99 rfl ?_
          refine cl_H_execute (c_H_execute _ _ hsk.1.1 hsk.1.2) d_H_run_100 (Nat.le_of_ble_eq_true rfl) ?_
          refine P_iinc (v := nI (i + 1)) (L' := [some (.inr 0), some (.inl _), some (.inl _)]) d_H_run_103 rfl (ofInt1 i) (by decide) rfl ?_
          refine P_goto 38 d_H_run_106 (by decide) ?_
          exact PW_r (by simp [f_loop, f_tick, *]) (by simp [f_loop, f_tick, *]) (ih (i + 1) _ (by omega) (exec_sk hsk))
        · refine P_aload_n d_H_run_80 rfl ?_
          refine P_aload_n d_H_run_81 rfl ?_
          refine g_H_pc d_H_run_82 ?_
          refine cl_H_isStart (c_H_isStart _ _ _ hsk.2) d_H_run_85 (Nat.le_of_ble_eq_true rfl) ?_
          refine P_if_ne 99 d_H_run_88 (by decide) (fun c88 => ?_) (fun c88 => ?_)
          · refine P_aload_n d_H_run_99 rfl ?_
            refine cl_H_execute (c_H_execute _ _ hsk.1.1 hsk.1.2) d_H_run_100 (Nat.le_of_ble_eq_true rfl) ?_
            refine P_iinc (v := nI (i + 1)) (L' := [some (.inr 0), some (.inl _), some (.inl _)]) d_H_run_103 rfl (ofInt1 i) (by decide) rfl ?_
            refine P_goto 38 d_H_run_106 (by decide) ?_
            exact PW_r (by simp [f_loop, f_tick, *]) (by simp [f_loop, f_tick, *]) (ih (i + 1) _ (by omega) (exec_sk hsk))
          · refine P_aload_n d_H_run_91 rfl ?_
            refine P_iconst (v := 2) d_H_run_92 (by decide) ?_
            refine s_H_end d_H_run_93 ?_
            refine P_goto 103 d_H_run_96 (by decide) ?_
            refine P_iinc (v := nI (i + 1)) (L' := [some (.inr 0), some (.inl _), some (.inl _)]) d_H_run_103 rfl (ofInt1 i) (by decide) rfl ?_
            refine P_goto 38 d_H_run_106 (by decide) ?_
            exact PW_r (by simp [f_loop, f_tick, *]) (by simp [f_loop, f_tick, *]) (ih (i + 1) _ (by omega) (hsk))
      · refine P_aload_n d_H_run_62 rfl ?_
        refine P_iconst (v := 4) d_H_run_63 (by decide) ?_
        refine s_H_end d_H_run_64 ?_
        refine P_goto 103 d_H_run_67 (by decide) ?_
        refine P_iinc (v := nI (i + 1)) (L' := [some (.inr 0), some (.inl _), some (.inl _)]) d_H_run_103 rfl (ofInt1 i) (by decide) rfl ?_
        refine P_goto 38 d_H_run_106 (by decide) ?_
        exact PW_r (by simp [f_loop, f_tick, *]) (by simp [f_loop, f_tick, *]) (ih (i + 1) _ (by omega) (hsk))
set_option maxHeartbeats 400000 in
set_option maxRecDepth 10000 in
theorem c_H_run (σ μ : SG) (a : Int32) (hL : σ 0 0 ≤ 64) : CF k_H_run [.inr 0, .inl a] (σ, μ) (some (if a < 0 then -1 else if a < 64 then (f_loop 1000 (f_start σ a)) 0 15 else -1)) (if a < 0 then σ else if a < 64 then f_loop 1000 (f_start σ a) else σ, μ) := by
  refine CF.of rfl rfl (Nat.le_of_ble_eq_true rfl) (L := [some (.inr 0), some (.inl a), none]) rfl ?_
  refine P_iload_n d_H_run_0 rfl ?_
  refine P_if_lt 10 d_H_run_1 (by decide) (fun c1 => ?_) (fun c1 => ?_)
  · refine P_iconst (v := (-1)) d_H_run_10 (by decide) ?_
    exact P_iret d_H_run_11 (by simp [*]) (by simp [*])
  · refine P_iload_n d_H_run_4 rfl ?_
    refine P_bipush (v := 64) d_H_run_5 (by decide) ?_
    refine P_icmp_lt 12 d_H_run_7 (by decide) (fun c7 => ?_) (fun c7 => ?_)
    · refine P_aload_n d_H_run_12 rfl ?_
      refine P_aload_n d_H_run_13 rfl ?_
      refine P_iload_n d_H_run_14 rfl ?_
      refine cl_H_entry (c_H_entry _ _ _ (vp_of 64 rfl c1 c7) hL) d_H_run_15 (Nat.le_of_ble_eq_true rfl) ?_
      refine s_H_pc d_H_run_18 ?_
      refine P_aload_n d_H_run_21 rfl ?_
      refine P_iconst (v := 0) d_H_run_22 (by decide) ?_
      refine s_H_stacked d_H_run_23 ?_
      refine P_aload_n d_H_run_26 rfl ?_
      refine P_iconst (v := 0) d_H_run_27 (by decide) ?_
      refine s_H_done d_H_run_28 ?_
      refine P_aload_n d_H_run_31 rfl ?_
      refine P_iconst (v := 0) d_H_run_32 (by decide) ?_
      refine s_H_end d_H_run_33 ?_
      refine P_iconst (v := 0) d_H_run_36 (by decide) ?_
      refine P_istore_n (L' := [some (.inr 0), some (.inl _), some (.inl 0)]) d_H_run_37 (by decide) rfl ?_
      exact PW_r (by simp only [if_neg c1, if_pos c7]) (by simp only [if_neg c1, if_pos c7]) (lp_H_run μ a 1000 0 (f_start σ a) rfl ⟨⟨(by decide : ¬ (0 : Int32) < 0), (by decide : (0 : Int32) ≤ 8)⟩, hL⟩)
    · refine P_iconst (v := (-1)) d_H_run_10 (by decide) ?_
      exact P_iret d_H_run_11 (by simp [*]) (by simp [*])
end
section
def f_pa (σ : SG) (w : Nat) (x : Int32) : SG := f_put (f_put σ w ((x + 256) >>> ((8 : Int32) &&& 31))) (w + 1) ((x + 256) &&& 255)
def f_rel (σ : SG) (w x : Nat) : SG :=
  if σ 1 x = 4 then f_pa (f_put σ w 14) (w + 1) (tgI (σ 1) x)
  else if σ 1 x = 5 then f_pa (f_put (f_put σ w 11) (w + 1) (σ 1 (x + 1))) (w + 2) (tgI (σ 1) x)
  else if σ 1 x = 6 then f_pa (f_put σ w 12) (w + 1) (tgI (σ 1) x)
  else if σ 1 x = 8 then f_pa (f_put (f_put σ w 13) (w + 1) (σ 1 (x + 1))) (w + 2) (nI (x + 2))
  else if σ 1 x ≤ 0 then f_put σ w (σ 1 x)
  else if 4 ≤ σ 1 x then f_put σ w (σ 1 x)
  else f_put (f_put σ w (σ 1 x)) (w + 1) (σ 1 (x + 1))
/-- how many bytes an instruction takes in the second area -/
def dl (k : Int32) : Nat := if k = 4 then 3 else if k = 5 then 4 else if k = 6 then 3 else if k = 8 then 4 else if k ≤ 0 then 1 else if 4 ≤ k then 1 else 2
theorem dl_in (k : Int32) : 1 ≤ dl k ∧ dl k ≤ 4 := by
  unfold dl
  split; omega
  split; omega
  split; omega
  split; omega
  split; omega
  split <;> omega
theorem dl_1 {k : Int32} (h : ln k = 1) : dl k = 1 := by
  unfold ln at h
  split at h
  · rename_i e; subst e; rfl
  · split at h
    · rename_i e; subst e; rfl
    · split at h <;> omega
theorem rel_w (σ : SG) (w x : Nat) : (f_rel σ w x) 0 6 = nI (w + dl (σ 1 x)) := by
  unfold f_rel dl
  split; rfl
  split; rfl
  split; rfl
  split; rfl
  split; rfl
  split; rfl
  rfl
theorem put_1 (σ : SG) (w : Nat) (b : Int32) : (f_put σ w b) 1 = σ 1 := rfl
theorem pa_1 (σ : SG) (w : Nat) (b : Int32) : (f_pa σ w b) 1 = σ 1 := rfl
theorem rel_1 (σ : SG) (w x : Nat) : (f_rel σ w x) 1 = σ 1 := by
  unfold f_rel
  split; rfl
  split; rfl
  split; rfl
  split; rfl
  split; rfl
  split; rfl
  rfl
def dst (σ : SG) (w x : Nat) : SG := f_rel (ss σ 4 x (512 + nI w)) w x
def d_0 (σ : SG) (s : Nat) : SG := f_put (f_put (ss σ 0 6 (nI (16 * s))) (16 * s) 10) (16 * s + 1) (nI s)
def d_f (σ : SG) (w y : Nat) : SG := f_pa (f_put σ w 9) (w + 1) (nI y)
def f_disp (σ : SG) (s a : Nat) : SG :=
  if 3 ≤ ln (σ 1 a) then d_f (dst (d_0 σ s) (16 * s + 2) a) (16 * s + 2 + dl (σ 1 a)) (a + hl (σ 1) a)
  else if 3 ≤ ln (σ 1 a) + ln (σ 1 (a + ln (σ 1 a))) then d_f (dst (dst (d_0 σ s) (16 * s + 2) a) (16 * s + 2 + dl (σ 1 a)) (a + ln (σ 1 a))) (16 * s + 2 + dl (σ 1 a) + dl (σ 1 (a + ln (σ 1 a)))) (a + hl (σ 1) a)
  else d_f (dst (dst (dst (d_0 σ s) (16 * s + 2) a) (16 * s + 2 + dl (σ 1 a)) (a + ln (σ 1 a))) (16 * s + 2 + dl (σ 1 a) + dl (σ 1 (a + ln (σ 1 a)))) (a + (ln (σ 1 a) + ln (σ 1 (a + ln (σ 1 a)))))) (16 * s + 2 + dl (σ 1 a) + dl (σ 1 (a + ln (σ 1 a))) + dl (σ 1 (a + (ln (σ 1 a) + ln (σ 1 (a + ln (σ 1 a))))))) (a + hl (σ 1) a)
theorem dst_w (σ : SG) (w x : Nat) : (dst σ w x) 0 6 = nI (w + dl (σ 1 x)) := rel_w _ _ _
theorem dst_1 (σ : SG) (w x : Nat) : (dst σ w x) 1 = σ 1 := rel_1 _ _ _
set_option maxHeartbeats 400000 in
set_option maxRecDepth 10000 in
theorem c_H_putAddress (σ μ : SG) (x : Int32) (w : Nat) (hw : w + 2 ≤ 64) (h : σ 0 6 = nI w) : CF k_H_putAddress [.inr 0, .inl x] (σ, μ) none (f_pa σ w x, μ) := by
  refine CF.of rfl rfl (Nat.le_of_ble_eq_true rfl) (L := [some (.inr 0), some (.inl x)]) rfl ?_
  refine P_aload_n d_H_putAddress_0 rfl ?_
  refine P_iload_n d_H_putAddress_1 rfl ?_
  refine P_sipush (v := 256) d_H_putAddress_2 (by decide) ?_
  refine P_iadd d_H_putAddress_5 ?_
  refine P_bipush (v := 8) d_H_putAddress_6 (by decide) ?_
  refine P_ishr d_H_putAddress_8 ?_
  refine cl_H_put (c_H_put _ _ _ w (by omega) h) d_H_putAddress_9 (Nat.le_of_ble_eq_true rfl) ?_
  refine P_aload_n d_H_putAddress_12 rfl ?_
  refine P_iload_n d_H_putAddress_13 rfl ?_
  refine P_sipush (v := 256) d_H_putAddress_14 (by decide) ?_
  refine P_iadd d_H_putAddress_17 ?_
  refine P_sipush (v := 255) d_H_putAddress_18 (by decide) ?_
  refine P_iand d_H_putAddress_21 ?_
  refine cl_H_put (c_H_put _ _ _ (w + 1) (by omega) rfl) d_H_putAddress_22 (Nat.le_of_ble_eq_true rfl) ?_
  exact P_vret d_H_putAddress_25 (by rfl) (by rfl)
set_option maxHeartbeats 400000 in
set_option maxRecDepth 10000 in
theorem c_H_relocate (σ μ : SG) (x w : Nat) (hx : x + ln (σ 1 x) ≤ 64) (hw : w + 4 ≤ 64) (h : σ 0 6 = nI w) : CF k_H_relocate [.inr 0, .inl (nI x)] (σ, μ) none (f_rel σ w x, μ) := by
  have l1 := ln_in (σ 1 x)
  refine CF.of rfl rfl (Nat.le_of_ble_eq_true rfl) (L := [some (.inr 0), some (.inl (nI x)), none, none]) rfl ?_
  refine P_aload_n d_H_relocate_0 rfl ?_
  refine g_H_plain d_H_relocate_1 ?_
  refine P_iload_n d_H_relocate_4 rfl ?_
  refine P_iald ar_1 (vp_in_nI (by omega) (by decide)) d_H_relocate_5 ?_
  refine P_top (y := σ 1 x) (by rw [nI_clamp (by omega)]) ?_
  refine P_istore_n (L' := [some (.inr 0), some (.inl _), some (.inl _), none]) d_H_relocate_6 (by decide) rfl ?_
  refine P_aload_n d_H_relocate_7 rfl ?_
  refine P_iload_n d_H_relocate_8 rfl ?_
  refine cl_H_targetOf (c_H_targetOf _ _ _ hx) d_H_relocate_9 (Nat.le_of_ble_eq_true rfl) ?_
  refine P_istore_n (L' := [some (.inr 0), some (.inl _), some (.inl _), some (.inl _)]) d_H_relocate_12 (by decide) rfl ?_
  refine P_iload_n d_H_relocate_13 rfl ?_
  refine P_iconst (v := 4) d_H_relocate_14 (by decide) ?_
  refine P_icmp_ne 32 d_H_relocate_15 (by decide) (fun c15 => ?_) (fun c15 => ?_)
  · refine P_iload_n d_H_relocate_32 rfl ?_
    refine P_iconst (v := 5) d_H_relocate_33 (by decide) ?_
    refine P_icmp_ne 63 d_H_relocate_34 (by decide) (fun c34 => ?_) (fun c34 => ?_)
    · refine P_iload_n d_H_relocate_63 rfl ?_
      refine P_bipush (v := 6) d_H_relocate_64 (by decide) ?_
      refine P_icmp_ne 83 d_H_relocate_66 (by decide) (fun c66 => ?_) (fun c66 => ?_)
      · refine P_iload_n d_H_relocate_83 rfl ?_
        refine P_bipush (v := 8) d_H_relocate_84 (by decide) ?_
        refine P_icmp_ne 117 d_H_relocate_86 (by decide) (fun c86 => ?_) (fun c86 => ?_)
        · refine P_aload_n d_H_relocate_117 rfl ?_
          refine P_iload_n d_H_relocate_118 rfl ?_
          refine cl_H_put (c_H_put _ _ _ w (by omega) h) d_H_relocate_119 (Nat.le_of_ble_eq_true rfl) ?_
          refine P_iload_n d_H_relocate_122 rfl ?_
          refine P_if_le 143 d_H_relocate_123 (by decide) (fun c123 => ?_) (fun c123 => ?_)
          · exact P_vret d_H_relocate_143 (by rfl) (by simp [f_rel, *])
          · refine P_iload_n d_H_relocate_126 rfl ?_
            refine P_iconst (v := 4) d_H_relocate_127 (by decide) ?_
            refine P_icmp_ge 143 d_H_relocate_128 (by decide) (fun c128 => ?_) (fun c128 => ?_)
            · exact P_vret d_H_relocate_143 (by rfl) (by simp [f_rel, *])
            · have l2 : 2 ≤ ln (σ 1 x) := by
                unfold ln
                rw [if_neg (fun q => c123 (by rw [q]; decide)), if_neg (fun q => c128 (by rw [q]; decide))]
                split <;> omega
              refine P_aload_n d_H_relocate_131 rfl ?_
              refine P_aload_n d_H_relocate_132 rfl ?_
              refine g_H_plain d_H_relocate_133 ?_
              refine P_iload_n d_H_relocate_136 rfl ?_
              refine P_iconst (v := 1) d_H_relocate_137 (by decide) ?_
              refine P_iadd d_H_relocate_138 ?_
              refine P_top (y := nI (x + 1)) (nI_add x 1) ?_
              refine P_iald ar_1 (vp_in_nI (by omega) (by decide)) d_H_relocate_139 ?_
              refine P_top (y := σ 1 (x + 1)) (by rw [nI_clamp (by omega)]; rfl) ?_
              refine cl_H_put (c_H_put _ _ _ (w + 1) (by omega) rfl) d_H_relocate_140 (Nat.le_of_ble_eq_true rfl) ?_
              exact P_vret d_H_relocate_143 (by rfl) (by simp [f_rel, *])
        · have l2 : ln (σ 1 x) = 2 := by rw [c86]; rfl
          refine P_aload_n d_H_relocate_89 rfl ?_
          refine P_bipush (v := 13) d_H_relocate_90 (by decide) ?_
          refine cl_H_put (c_H_put _ _ _ w (by omega) h) d_H_relocate_92 (Nat.le_of_ble_eq_true rfl) ?_
          refine P_aload_n d_H_relocate_95 rfl ?_
          refine P_aload_n d_H_relocate_96 rfl ?_
          refine g_H_plain d_H_relocate_97 ?_
          refine P_iload_n d_H_relocate_100 rfl ?_
          refine P_iconst (v := 1) d_H_relocate_101 (by decide) ?_
          refine P_iadd d_H_relocate_102 ?_
          refine P_top (y := nI (x + 1)) (nI_add x 1) ?_
          refine P_iald ar_1 (vp_in_nI (by omega) (by decide)) d_H_relocate_103 ?_
          refine P_top (y := σ 1 (x + 1)) (by rw [nI_clamp (by omega)]; rfl) ?_
          refine cl_H_put (c_H_put _ _ _ (w + 1) (by omega) rfl) d_H_relocate_104 (Nat.le_of_ble_eq_true rfl) ?_
          refine P_aload_n d_H_relocate_107 rfl ?_
          refine P_iload_n d_H_relocate_108 rfl ?_
          refine P_iconst (v := 2) d_H_relocate_109 (by decide) ?_
          refine P_iadd d_H_relocate_110 ?_
          refine P_top (y := nI (x + 2)) (nI_add x 2) ?_
          refine cl_H_putAddress (c_H_putAddress _ _ _ (w + 2) (by omega) rfl) d_H_relocate_111 (Nat.le_of_ble_eq_true rfl) ?_
          refine P_goto 143 d_H_relocate_114 (by decide) ?_
          exact P_vret d_H_relocate_143 (by rfl) (by simp [f_rel, *])
      · refine P_aload_n d_H_relocate_69 rfl ?_
        refine P_bipush (v := 12) d_H_relocate_70 (by decide) ?_
        refine cl_H_put (c_H_put _ _ _ w (by omega) h) d_H_relocate_72 (Nat.le_of_ble_eq_true rfl) ?_
        refine P_aload_n d_H_relocate_75 rfl ?_
        refine P_iload_n d_H_relocate_76 rfl ?_
        refine cl_H_putAddress (c_H_putAddress _ _ _ (w + 1) (by omega) rfl) d_H_relocate_77 (Nat.le_of_ble_eq_true rfl) ?_
        refine P_goto 143 d_H_relocate_80 (by decide) ?_
        exact P_vret d_H_relocate_143 (by rfl) (by simp [f_rel, *])
    · have l2 : ln (σ 1 x) = 3 := by rw [c34]; rfl
      refine P_aload_n d_H_relocate_37 rfl ?_
      refine P_bipush (v := 11) d_H_relocate_38 (by decide) ?_
      refine cl_H_put (c_H_put _ _ _ w (by omega) h) d_H_relocate_40 (Nat.le_of_ble_eq_true rfl) ?_
      refine P_aload_n d_H_relocate_43 rfl ?_
      refine P_aload_n d_H_relocate_44 rfl ?_
      refine g_H_plain d_H_relocate_45 ?_
      refine P_iload_n d_H_relocate_48 rfl ?_
      refine P_iconst (v := 1) d_H_relocate_49 (by decide) ?_
      refine P_iadd d_H_relocate_50 ?_
      refine P_top (y := nI (x + 1)) (nI_add x 1) ?_
      refine P_iald ar_1 (vp_in_nI (by omega) (by decide)) d_H_relocate_51 ?_
      refine P_top (y := σ 1 (x + 1)) (by rw [nI_clamp (by omega)]; rfl) ?_
      refine cl_H_put (c_H_put _ _ _ (w + 1) (by omega) rfl) d_H_relocate_52 (Nat.le_of_ble_eq_true rfl) ?_
      refine P_aload_n d_H_relocate_55 rfl ?_
      refine P_iload_n d_H_relocate_56 rfl ?_
      refine cl_H_putAddress (c_H_putAddress _ _ _ (w + 2) (by omega) rfl) d_H_relocate_57 (Nat.le_of_ble_eq_true rfl) ?_
      refine P_goto 143 d_H_relocate_60 (by decide) ?_
      exact P_vret d_H_relocate_143 (by rfl) (by simp [f_rel, *])
  · refine P_aload_n d_H_relocate_18 rfl ?_
    refine P_bipush (v := 14) d_H_relocate_19 (by decide) ?_
    refine cl_H_put (c_H_put _ _ _ w (by omega) h) d_H_relocate_21 (Nat.le_of_ble_eq_true rfl) ?_
    refine P_aload_n d_H_relocate_24 rfl ?_
    refine P_iload_n d_H_relocate_25 rfl ?_
    refine cl_H_putAddress (c_H_putAddress _ _ _ (w + 1) (by omega) rfl) d_H_relocate_26 (Nat.le_of_ble_eq_true rfl) ?_
    refine P_goto 143 d_H_relocate_29 (by decide) ?_
    exact P_vret d_H_relocate_143 (by rfl) (by simp [f_rel, *])
set_option maxHeartbeats 1000000 in
set_option maxRecDepth 10000 in
theorem c_H_displace (σ μ : SG) (s a : Nat) (hs : s < 4) (ha : a + 3 ≤ 64) (hx0 : a + ln (σ 1 a) ≤ 64) (hx1 : ln (σ 1 a) < 3 → a + ln (σ 1 a) + ln (σ 1 (a + ln (σ 1 a))) ≤ 64) (hx2 : ln (σ 1 a) + ln (σ 1 (a + ln (σ 1 a))) < 3 → a + (ln (σ 1 a) + ln (σ 1 (a + ln (σ 1 a)))) + ln (σ 1 (a + (ln (σ 1 a) + ln (σ 1 (a + ln (σ 1 a)))))) ≤ 64) : CF k_H_displace [.inr 0, .inl (nI s), .inl (nI a), .inl (nI (hl (σ 1) a))] (σ, μ) none (f_disp σ s a, μ) := by
  have l1 := ln_in (σ 1 a)
  have l2 := ln_in (σ 1 (a + ln (σ 1 a)))
  have l3 := ln_in (σ 1 (a + (ln (σ 1 a) + ln (σ 1 (a + ln (σ 1 a))))))
  have q1 := dl_in (σ 1 a)
  have q2 := dl_in (σ 1 (a + ln (σ 1 a)))
  have q3 := dl_in (σ 1 (a + (ln (σ 1 a) + ln (σ 1 (a + ln (σ 1 a))))))
  have hh : hl (σ 1) a ≤ 6 ∧ 1 ≤ hl (σ 1) a := by unfold hl; split; omega; split <;> omega
  refine CF.of rfl rfl (Nat.le_of_ble_eq_true rfl) (L := [some (.inr 0), some (.inl (nI s)), some (.inl (nI a)), some (.inl (nI (hl (σ 1) a))), none, none]) rfl ?_
  refine P_aload_n d_H_displace_0 rfl ?_
  refine P_iload_n d_H_displace_1 rfl ?_
  refine P_bipush (v := 16) d_H_displace_2 (by decide) ?_
  refine P_imul d_H_displace_4 ?_
  refine P_top (y := nI (16 * s)) (by rw [show (16 : Int32) = nI 16 from rfl, pk_mul, Nat.mul_comm]) ?_
  refine s_H_writeAt d_H_displace_5 ?_
  refine P_aload_n d_H_displace_8 rfl ?_
  refine P_bipush (v := 10) d_H_displace_9 (by decide) ?_
  refine cl_H_put (c_H_put _ _ _ (16 * s) (by omega) rfl) d_H_displace_11 (Nat.le_of_ble_eq_true rfl) ?_
  refine P_aload_n d_H_displace_14 rfl ?_
  refine P_iload_n d_H_displace_15 rfl ?_
  refine cl_H_put (c_H_put _ _ _ (16 * s + 1) (by omega) rfl) d_H_displace_16 (Nat.le_of_ble_eq_true rfl) ?_
  refine P_iload_n d_H_displace_19 rfl ?_
  refine P_istore (L' := [some (.inr 0), some (.inl _), some (.inl _), some (.inl _), some (.inl _), none]) d_H_displace_20 (by decide) rfl ?_
  refine PW_S (σ2 := (d_0 σ s, μ)) rfl ?_
  refine P_iconst (v := 0) d_H_displace_22 (by decide) ?_
  refine P_istore (L' := [some (.inr 0), some (.inl _), some (.inl _), some (.inl _), some (.inl _), some (.inl 0)]) d_H_displace_23 (by decide) rfl ?_
  refine P_iload d_H_displace_25 rfl ?_
  refine P_iconst (v := 3) d_H_displace_27 (by decide) ?_
  refine P_icmp_ge 82 d_H_displace_28 (by decide) (fun hc => absurd hc (by decide)) (fun _ => ?_)
  refine P_iload d_H_displace_31 rfl ?_
  refine P_iload_n d_H_displace_33 rfl ?_
  refine P_iload_n d_H_displace_34 rfl ?_
  refine P_iadd d_H_displace_35 ?_
  refine P_icmp_ge 82 d_H_displace_36 (by decide) (fun c36 => False.elim (nI_ge (by omega) (by omega) (nI_add a _ ▸ c36))) (fun c36 => ?_)
  refine P_aload_n d_H_displace_39 rfl ?_
  refine g_H_moved d_H_displace_40 ?_
  refine P_iload d_H_displace_43 rfl ?_
  refine P_sipush (v := 512) d_H_displace_45 (by decide) ?_
  refine P_aload_n d_H_displace_48 rfl ?_
  refine g_H_writeAt d_H_displace_49 ?_
  refine P_top (y := nI (16 * s + 2)) (rfl) ?_
  refine P_iadd d_H_displace_52 ?_
  refine P_iast ar_4 (vp_in_nI (by omega) (by decide)) d_H_displace_53 ?_
  refine PW_S (σ2 := (ss (d_0 σ s) 4 a (512 + nI (16 * s + 2)), μ)) (by rw [nI_clamp (by omega)]) ?_
  refine P_aload_n d_H_displace_54 rfl ?_
  refine P_iload d_H_displace_55 rfl ?_
  refine cl_H_relocate (c_H_relocate _ _ a (16 * s + 2) (by exact hx0) (by omega) rfl) d_H_displace_57 (Nat.le_of_ble_eq_true rfl) ?_
  refine PW_S (σ2 := (dst (d_0 σ s) (16 * s + 2) a, μ)) rfl ?_
  refine P_iload d_H_displace_60 rfl ?_
  refine P_aload_n d_H_displace_62 rfl ?_
  refine P_aload_n d_H_displace_63 rfl ?_
  refine g_H_plain d_H_displace_64 ?_
  refine P_iload d_H_displace_67 rfl ?_
  refine P_iald ar_1 (vp_in_nI (by omega) (by decide)) d_H_displace_69 ?_
  refine P_top (y := σ 1 a) (by rw [nI_clamp (by omega), dst_1]; rfl) ?_
  refine cl_H_lengthOf (c_H_lengthOf _ _ _) d_H_displace_70 (Nat.le_of_ble_eq_true rfl) ?_
  refine P_iadd d_H_displace_73 ?_
  refine P_top (y := nI (a + ln (σ 1 a))) (nI_add _ _) ?_
  refine P_istore (L' := [some (.inr 0), some (.inl _), some (.inl _), some (.inl _), some (.inl _), some (.inl 0)]) d_H_displace_74 (by decide) rfl ?_
  refine P_iinc (v := 1) (L' := [some (.inr 0), some (.inl _), some (.inl _), some (.inl _), some (.inl _), some (.inl 1)]) d_H_displace_76 rfl (by decide) (by decide) rfl ?_
  refine P_goto 25 d_H_displace_79 (by decide) ?_
  refine P_iload d_H_displace_25 rfl ?_
  refine P_iconst (v := 3) d_H_displace_27 (by decide) ?_
  refine P_icmp_ge 82 d_H_displace_28 (by decide) (fun hc => absurd hc (by decide)) (fun _ => ?_)
  refine P_iload d_H_displace_31 rfl ?_
  refine P_iload_n d_H_displace_33 rfl ?_
  refine P_iload_n d_H_displace_34 rfl ?_
  refine P_iadd d_H_displace_35 ?_
  refine P_icmp_ge 82 d_H_displace_36 (by decide) (fun c36_2 => ?_) (fun c36_2 => ?_)
  · have e1 : 3 ≤ ln (σ 1 a) := by
      rw [nI_add] at c36_2
      have := (nI_leI (by omega) (by omega)).mp c36_2
      unfold hl at this
      split at this
      · omega
      · split at this <;> omega
    refine P_aload_n d_H_displace_82 rfl ?_
    refine P_bipush (v := 9) d_H_displace_83 (by decide) ?_
    refine cl_H_put (c_H_put _ _ _ (16 * s + 2 + dl (σ 1 a)) (by omega) (dst_w _ _ _)) d_H_displace_85 (Nat.le_of_ble_eq_true rfl) ?_
    refine P_aload_n d_H_displace_88 rfl ?_
    refine P_iload_n d_H_displace_89 rfl ?_
    refine P_iload_n d_H_displace_90 rfl ?_
    refine P_iadd d_H_displace_91 ?_
    refine P_top (y := nI (a + hl (σ 1) a)) (nI_add _ _) ?_
    refine cl_H_putAddress (c_H_putAddress _ _ _ (16 * s + 2 + dl (σ 1 a) + 1) (by omega) rfl) d_H_displace_92 (Nat.le_of_ble_eq_true rfl) ?_
    exact P_vret d_H_displace_95 (by rfl) (by unfold f_disp; rw [if_pos e1]; rfl)
  · have e1 : ln (σ 1 a) < 3 := by
      rw [nI_add] at c36_2
      have := nI_3le (by omega) _ (by omega) c36_2
      unfold hl at this
      split at this <;> omega
    refine P_aload_n d_H_displace_39 rfl ?_
    refine g_H_moved d_H_displace_40 ?_
    refine P_iload d_H_displace_43 rfl ?_
    refine P_sipush (v := 512) d_H_displace_45 (by decide) ?_
    refine P_aload_n d_H_displace_48 rfl ?_
    refine g_H_writeAt d_H_displace_49 ?_
    refine P_top (y := nI (16 * s + 2 + dl (σ 1 a))) (dst_w _ _ _) ?_
    refine P_iadd d_H_displace_52 ?_
    refine P_iast ar_4 (vp_in_nI (by omega) (by decide)) d_H_displace_53 ?_
    refine PW_S (σ2 := (ss (dst (d_0 σ s) (16 * s + 2) a) 4 (a + ln (σ 1 a)) (512 + nI (16 * s + 2 + dl (σ 1 a))), μ)) (by rw [nI_clamp (by omega)]) ?_
    refine P_aload_n d_H_displace_54 rfl ?_
    refine P_iload d_H_displace_55 rfl ?_
    refine cl_H_relocate (c_H_relocate _ _ (a + ln (σ 1 a)) (16 * s + 2 + dl (σ 1 a)) (by show _ + ln ((dst (d_0 σ s) (16 * s + 2) a) 1 _) ≤ 64; rw [dst_1]; exact hx1 e1) (by omega) (dst_w _ _ _)) d_H_displace_57 (Nat.le_of_ble_eq_true rfl) ?_
    refine PW_S (σ2 := (dst (dst (d_0 σ s) (16 * s + 2) a) (16 * s + 2 + dl (σ 1 a)) (a + ln (σ 1 a)), μ)) rfl ?_
    refine P_iload d_H_displace_60 rfl ?_
    refine P_aload_n d_H_displace_62 rfl ?_
    refine P_aload_n d_H_displace_63 rfl ?_
    refine g_H_plain d_H_displace_64 ?_
    refine P_iload d_H_displace_67 rfl ?_
    refine P_iald ar_1 (vp_in_nI (by omega) (by decide)) d_H_displace_69 ?_
    refine P_top (y := σ 1 (a + ln (σ 1 a))) (by rw [nI_clamp (by omega)]; show (dst (dst (d_0 σ s) (16 * s + 2) a) (16 * s + 2 + dl (σ 1 a)) (a + ln (σ 1 a))) 1 _ = _; rw [dst_1, dst_1]; rfl) ?_
    refine cl_H_lengthOf (c_H_lengthOf _ _ _) d_H_displace_70 (Nat.le_of_ble_eq_true rfl) ?_
    refine P_iadd d_H_displace_73 ?_
    refine P_top (y := nI (a + (ln (σ 1 a) + ln (σ 1 (a + ln (σ 1 a)))))) (by rw [nI_add, Nat.add_assoc]) ?_
    refine P_istore (L' := [some (.inr 0), some (.inl _), some (.inl _), some (.inl _), some (.inl _), some (.inl 1)]) d_H_displace_74 (by decide) rfl ?_
    refine P_iinc (v := 2) (L' := [some (.inr 0), some (.inl _), some (.inl _), some (.inl _), some (.inl _), some (.inl 2)]) d_H_displace_76 rfl (by decide) (by decide) rfl ?_
    refine P_goto 25 d_H_displace_79 (by decide) ?_
    refine P_iload d_H_displace_25 rfl ?_
    refine P_iconst (v := 3) d_H_displace_27 (by decide) ?_
    refine P_icmp_ge 82 d_H_displace_28 (by decide) (fun hc => absurd hc (by decide)) (fun _ => ?_)
    refine P_iload d_H_displace_31 rfl ?_
    refine P_iload_n d_H_displace_33 rfl ?_
    refine P_iload_n d_H_displace_34 rfl ?_
    refine P_iadd d_H_displace_35 ?_
    refine P_icmp_ge 82 d_H_displace_36 (by decide) (fun c36_3 => ?_) (fun c36_3 => ?_)
    · have e2 : 3 ≤ ln (σ 1 a) + ln (σ 1 (a + ln (σ 1 a))) := by
        rw [nI_add] at c36_3
        have := (nI_leI (by omega) (by omega)).mp c36_3
        unfold hl at this
        split at this
        · omega
        · split at this <;> omega
      refine P_aload_n d_H_displace_82 rfl ?_
      refine P_bipush (v := 9) d_H_displace_83 (by decide) ?_
      refine cl_H_put (c_H_put _ _ _ (16 * s + 2 + dl (σ 1 a) + dl (σ 1 (a + ln (σ 1 a)))) (by omega) (by rw [dst_w, dst_1]; rfl)) d_H_displace_85 (Nat.le_of_ble_eq_true rfl) ?_
      refine P_aload_n d_H_displace_88 rfl ?_
      refine P_iload_n d_H_displace_89 rfl ?_
      refine P_iload_n d_H_displace_90 rfl ?_
      refine P_iadd d_H_displace_91 ?_
      refine P_top (y := nI (a + hl (σ 1) a)) (nI_add _ _) ?_
      refine cl_H_putAddress (c_H_putAddress _ _ _ (16 * s + 2 + dl (σ 1 a) + dl (σ 1 (a + ln (σ 1 a))) + 1) (by omega) rfl) d_H_displace_92 (Nat.le_of_ble_eq_true rfl) ?_
      exact P_vret d_H_displace_95 (by rfl) (by unfold f_disp; rw [if_neg (Nat.not_le.mpr e1), if_pos e2]; rfl)
    · have e2 : ln (σ 1 a) + ln (σ 1 (a + ln (σ 1 a))) < 3 := by
        rw [nI_add] at c36_3
        have := nI_3le (by omega) _ (by omega) c36_3
        unfold hl at this
        split at this
        · omega
        · split at this <;> omega
      have g1 : ln (σ 1 a) = 1 := by omega
      have g2 : ln (σ 1 (a + ln (σ 1 a))) = 1 := by omega
      have g3 := dl_1 g1
      have g4 := dl_1 g2
      refine P_aload_n d_H_displace_39 rfl ?_
      refine g_H_moved d_H_displace_40 ?_
      refine P_iload d_H_displace_43 rfl ?_
      refine P_sipush (v := 512) d_H_displace_45 (by decide) ?_
      refine P_aload_n d_H_displace_48 rfl ?_
      refine g_H_writeAt d_H_displace_49 ?_
      refine P_top (y := nI (16 * s + 2 + dl (σ 1 a) + dl (σ 1 (a + ln (σ 1 a))))) (by rw [dst_w, dst_1]; rfl) ?_
      refine P_iadd d_H_displace_52 ?_
      refine P_iast ar_4 (vp_in_nI (by omega) (by decide)) d_H_displace_53 ?_
      refine PW_S (σ2 := (ss (dst (dst (d_0 σ s) (16 * s + 2) a) (16 * s + 2 + dl (σ 1 a)) (a + ln (σ 1 a))) 4 (a + (ln (σ 1 a) + ln (σ 1 (a + ln (σ 1 a))))) (512 + nI (16 * s + 2 + dl (σ 1 a) + dl (σ 1 (a + ln (σ 1 a))))), μ)) (by rw [nI_clamp (by omega)]) ?_
      refine P_aload_n d_H_displace_54 rfl ?_
      refine P_iload d_H_displace_55 rfl ?_
      refine cl_H_relocate (c_H_relocate _ _ (a + (ln (σ 1 a) + ln (σ 1 (a + ln (σ 1 a))))) (16 * s + 2 + dl (σ 1 a) + dl (σ 1 (a + ln (σ 1 a)))) (by show _ + ln ((dst (dst (d_0 σ s) (16 * s + 2) a) (16 * s + 2 + dl (σ 1 a)) (a + ln (σ 1 a))) 1 _) ≤ 64; rw [dst_1, dst_1]; exact hx2 e2) (by omega) (by show (dst (dst (d_0 σ s) (16 * s + 2) a) (16 * s + 2 + dl (σ 1 a)) (a + ln (σ 1 a))) 0 6 = _; rw [dst_w, dst_1]; rfl)) d_H_displace_57 (Nat.le_of_ble_eq_true rfl) ?_
      refine PW_S (σ2 := (dst (dst (dst (d_0 σ s) (16 * s + 2) a) (16 * s + 2 + dl (σ 1 a)) (a + ln (σ 1 a))) (16 * s + 2 + dl (σ 1 a) + dl (σ 1 (a + ln (σ 1 a)))) (a + (ln (σ 1 a) + ln (σ 1 (a + ln (σ 1 a))))), μ)) rfl ?_
      refine P_iload d_H_displace_60 rfl ?_
      refine P_aload_n d_H_displace_62 rfl ?_
      refine P_aload_n d_H_displace_63 rfl ?_
      refine g_H_plain d_H_displace_64 ?_
      refine P_iload d_H_displace_67 rfl ?_
      refine P_iald ar_1 (vp_in_nI (by omega) (by decide)) d_H_displace_69 ?_
      refine P_top (y := σ 1 (a + (ln (σ 1 a) + ln (σ 1 (a + ln (σ 1 a)))))) (by rw [nI_clamp (by omega)]; show (dst (dst (dst (d_0 σ s) (16 * s + 2) a) (16 * s + 2 + dl (σ 1 a)) (a + ln (σ 1 a))) (16 * s + 2 + dl (σ 1 a) + dl (σ 1 (a + ln (σ 1 a)))) (a + (ln (σ 1 a) + ln (σ 1 (a + ln (σ 1 a)))))) 1 _ = _; rw [dst_1, dst_1, dst_1]; rfl) ?_
      refine cl_H_lengthOf (c_H_lengthOf _ _ _) d_H_displace_70 (Nat.le_of_ble_eq_true rfl) ?_
      refine P_iadd d_H_displace_73 ?_
      refine P_top (y := nI (a + (ln (σ 1 a) + ln (σ 1 (a + ln (σ 1 a)))) + ln (σ 1 (a + (ln (σ 1 a) + ln (σ 1 (a + ln (σ 1 a)))))))) (nI_add _ _) ?_
      refine P_istore (L' := [some (.inr 0), some (.inl _), some (.inl _), some (.inl _), some (.inl _), some (.inl 2)]) d_H_displace_74 (by decide) rfl ?_
      refine P_iinc (v := 3) (L' := [some (.inr 0), some (.inl _), some (.inl _), some (.inl _), some (.inl _), some (.inl 3)]) d_H_displace_76 rfl (by decide) (by decide) rfl ?_
      refine P_goto 25 d_H_displace_79 (by decide) ?_
      refine P_iload d_H_displace_25 rfl ?_
      refine P_iconst (v := 3) d_H_displace_27 (by decide) ?_
      refine P_icmp_ge 82 d_H_displace_28 (by decide) (fun _ => ?_) (fun hc => absurd hc (by decide))
      refine P_aload_n d_H_displace_82 rfl ?_
      refine P_bipush (v := 9) d_H_displace_83 (by decide) ?_
      refine cl_H_put (c_H_put _ _ _ (16 * s + 2 + dl (σ 1 a) + dl (σ 1 (a + ln (σ 1 a))) + dl (σ 1 (a + (ln (σ 1 a) + ln (σ 1 (a + ln (σ 1 a))))))) (by omega) (by rw [dst_w, dst_1, dst_1]; rfl)) d_H_displace_85 (Nat.le_of_ble_eq_true rfl) ?_
      refine P_aload_n d_H_displace_88 rfl ?_
      refine P_iload_n d_H_displace_89 rfl ?_
      refine P_iload_n d_H_displace_90 rfl ?_
      refine P_iadd d_H_displace_91 ?_
      refine P_top (y := nI (a + hl (σ 1) a)) (nI_add _ _) ?_
      refine cl_H_putAddress (c_H_putAddress _ _ _ (16 * s + 2 + dl (σ 1 a) + dl (σ 1 (a + ln (σ 1 a))) + dl (σ 1 (a + (ln (σ 1 a) + ln (σ 1 (a + ln (σ 1 a)))))) + 1) (by omega) rfl) d_H_displace_92 (Nat.le_of_ble_eq_true rfl) ?_
      exact P_vret d_H_displace_95 (by rfl) (by unfold f_disp; rw [if_neg (Nat.not_le.mpr e1), if_neg (Nat.not_le.mpr e2)]; rfl)
theorem ow_hi : ∀ s, s < 4 → nI (512 + s * 16 + 256) >>> ((8 : Int32) &&& 31) = 3 := by decide +kernel
theorem ow_lo : ∀ s, s < 4 → nI (512 + s * 16 + 256) &&& 255 = nI (16 * s) := by decide +kernel
def owL (a : Nat) : Nat → Nat → SG → SG
  | 0, _, σ => σ
  | m + 1, j, σ => owL a m (j + 1) (ss σ 2 (a + j) 255)
def f_ow (σ : SG) (s a n : Nat) : SG := owL a (n - 3) 3 (ss (ss (ss σ 2 a 9) 2 (a + 1) 3) 2 (a + 2) (nI (16 * s)))
set_option maxHeartbeats 400000 in
set_option maxRecDepth 10000 in
theorem lp_H_overwrite (μ : SG) (a n : Nat) (x1 x4 : Int32) (han : a + n ≤ 64) : ∀ (m j : Nat) (σ : SG), j + m = n → PW k_H_overwrite none (owL a m j σ, μ) 52 [some (.inr 0), some (.inl x1), some (.inl (nI a)), some (.inl (nI n)), some (.inl x4), some (.inl (nI j))] [] (σ, μ) := by
  intro m
  induction m with
  | zero =>
    intro j σ hj
    rw [show j = n by omega]
    refine P_iload d_H_overwrite_52 rfl ?_
    refine P_iload_n d_H_overwrite_54 rfl ?_
    refine P_icmp_ge 76 d_H_overwrite_55 (by decide) (fun c55 => ?_) (fun c55 => False.elim (c55 (Int32.le_refl _)))
    exact P_vret d_H_overwrite_76 (by rfl) (by rfl)
  | succ m ih =>
    intro j σ hj
    refine P_iload d_H_overwrite_52 rfl ?_
    refine P_iload_n d_H_overwrite_54 rfl ?_
    refine P_icmp_ge 76 d_H_overwrite_55 (by decide) (fun c55 => False.elim (nI_ge (show j < n by omega) (by omega) c55)) (fun c55 => ?_)
    refine P_aload_n d_H_overwrite_58 rfl ?_
    refine g_H_code d_H_overwrite_59 ?_
    refine P_iload_n d_H_overwrite_62 rfl ?_
    refine P_iload d_H_overwrite_63 rfl ?_
    refine P_iadd d_H_overwrite_65 ?_
    refine P_top (y := nI (a + j)) (nI_add _ _) ?_
    refine P_sipush (v := 255) d_H_overwrite_66 (by decide) ?_
    refine P_iast ar_2 (vp_in_nI (by omega) (by decide)) d_H_overwrite_69 ?_
    refine PW_S (σ2 := (ss σ 2 (a + j) 255, μ)) (by rw [nI_clamp (by omega)]) ?_
    refine P_iinc (v := nI (j + 1)) (L' := [some (.inr 0), some (.inl _), some (.inl _), some (.inl _), some (.inl _), some (.inl _)]) d_H_overwrite_70 rfl (ofInt1 j) (by decide) rfl ?_
    refine P_goto 52 d_H_overwrite_73 (by decide) ?_
    exact ih (j + 1) _ (by omega)
set_option maxHeartbeats 400000 in
set_option maxRecDepth 10000 in
theorem c_H_overwrite (σ μ : SG) (s a n : Nat) (hs : s < 4) (hn : 3 ≤ n) (han : a + n ≤ 64) : CF k_H_overwrite [.inr 0, .inl (nI s), .inl (nI a), .inl (nI n)] (σ, μ) none (f_ow σ s a n, μ) := by
  refine CF.of rfl rfl (Nat.le_of_ble_eq_true rfl) (L := [some (.inr 0), some (.inl (nI s)), some (.inl (nI a)), some (.inl (nI n)), none, none]) rfl ?_
  refine P_sipush (v := 512) d_H_overwrite_0 (by decide) ?_
  refine P_iload_n d_H_overwrite_3 rfl ?_
  refine P_bipush (v := 16) d_H_overwrite_4 (by decide) ?_
  refine P_imul d_H_overwrite_6 ?_
  refine P_top (y := nI (s * 16)) (pk_mul s 16) ?_
  refine P_iadd d_H_overwrite_7 ?_
  refine P_top (y := nI (512 + s * 16)) (nI_add 512 _) ?_
  refine P_sipush (v := 256) d_H_overwrite_8 (by decide) ?_
  refine P_iadd d_H_overwrite_11 ?_
  refine P_top (y := nI (512 + s * 16 + 256)) (nI_add _ 256) ?_
  refine P_istore (L' := [some (.inr 0), some (.inl _), some (.inl _), some (.inl _), some (.inl _), none]) d_H_overwrite_12 (by decide) rfl ?_
  refine P_aload_n d_H_overwrite_14 rfl ?_
  refine g_H_code d_H_overwrite_15 ?_
  refine P_iload_n d_H_overwrite_18 rfl ?_
  refine P_bipush (v := 9) d_H_overwrite_19 (by decide) ?_
  refine P_iast ar_2 (vp_in_nI (by omega) (by decide)) d_H_overwrite_21 ?_
  refine P_aload_n d_H_overwrite_22 rfl ?_
  refine g_H_code d_H_overwrite_23 ?_
  refine P_iload_n d_H_overwrite_26 rfl ?_
  refine P_iconst (v := 1) d_H_overwrite_27 (by decide) ?_
  refine P_iadd d_H_overwrite_28 ?_
  refine P_top (y := nI (a + 1)) (nI_add a 1) ?_
  refine P_iload d_H_overwrite_29 rfl ?_
  refine P_bipush (v := 8) d_H_overwrite_31 (by decide) ?_
  refine P_ishr d_H_overwrite_33 ?_
  refine P_top (y := 3) (ow_hi s hs) ?_
  refine P_iast ar_2 (vp_in_nI (by omega) (by decide)) d_H_overwrite_34 ?_
  refine P_aload_n d_H_overwrite_35 rfl ?_
  refine g_H_code d_H_overwrite_36 ?_
  refine P_iload_n d_H_overwrite_39 rfl ?_
  refine P_iconst (v := 2) d_H_overwrite_40 (by decide) ?_
  refine P_iadd d_H_overwrite_41 ?_
  refine P_top (y := nI (a + 2)) (nI_add a 2) ?_
  refine P_iload d_H_overwrite_42 rfl ?_
  refine P_sipush (v := 255) d_H_overwrite_44 (by decide) ?_
  refine P_iand d_H_overwrite_47 ?_
  refine P_top (y := nI (16 * s)) (ow_lo s hs) ?_
  refine P_iast ar_2 (vp_in_nI (by omega) (by decide)) d_H_overwrite_48 ?_
  refine PW_S (σ2 := (ss (ss (ss σ 2 a 9) 2 (a + 1) 3) 2 (a + 2) (nI (16 * s)), μ)) (by rw [nI_clamp (by omega), nI_clamp (by omega), nI_clamp (by omega)]) ?_
  refine P_iconst (v := 3) d_H_overwrite_49 (by decide) ?_
  refine P_istore (L' := [some (.inr 0), some (.inl _), some (.inl _), some (.inl _), some (.inl _), some (.inl 3)]) d_H_overwrite_50 (by decide) rfl ?_
  exact lp_H_overwrite μ a n _ _ han (n - 3) 3 _ (by omega)
def f_hook (σ : SG) (s a : Nat) : SG := f_ow (f_disp (ss (ss (ss σ 7 s (nI a)) 8 s (nI (hl (σ 1) a))) 9 s 0) s a) s a (hl (σ 1) a)
/-- instructions follow one another up to N -/
def Chn (P S : Nat → Int32) (N : Nat) : Prop := ∀ x, x < N → ¬ S x = 0 → x + ln (P x) ≤ N ∧ (x + ln (P x) < N → ¬ S (x + ln (P x)) = 0)
theorem hl_in (P : Nat → Int32) (a : Nat) : 3 ≤ hl P a ∧ hl P a ≤ 5 := by
  have l1 := ln_in (P a)
  have l2 := ln_in (P (a + ln (P a)))
  have l3 := ln_in (P (a + (ln (P a) + ln (P (a + ln (P a))))))
  unfold hl
  split
  · omega
  · split <;> omega
theorem Chn.head {P S : Nat → Int32} {N a : Nat} (h : Chn P S N) (ha : a + 3 ≤ N) (hs : ¬ S a = 0) : (a + ln (P a) ≤ N ∧ (ln (P a) < 3 → a + ln (P a) + ln (P (a + ln (P a))) ≤ N ∧ ¬ S (a + ln (P a)) = 0) ∧ (ln (P a) + ln (P (a + ln (P a))) < 3 → a + (ln (P a) + ln (P (a + ln (P a)))) + ln (P (a + (ln (P a) + ln (P (a + ln (P a)))))) ≤ N ∧ ¬ S (a + (ln (P a) + ln (P (a + ln (P a))))) = 0)) ∧ a + hl P a ≤ N := by
  have l1 := ln_in (P a)
  have l2 := ln_in (P (a + ln (P a)))
  have h1 := h a (by omega) hs
  have h2 : ln (P a) < 3 → a + ln (P a) + ln (P (a + ln (P a))) ≤ N ∧ ¬ S (a + ln (P a)) = 0 := fun q => ⟨(h (a + ln (P a)) (by omega) (h1.2 (by omega))).1, h1.2 (by omega)⟩
  have h3 : ln (P a) + ln (P (a + ln (P a))) < 3 → a + (ln (P a) + ln (P (a + ln (P a)))) + ln (P (a + (ln (P a) + ln (P (a + ln (P a)))))) ≤ N ∧ ¬ S (a + (ln (P a) + ln (P (a + ln (P a))))) = 0 := fun q => by
    have g := h (a + ln (P a)) (by omega) (h1.2 (by omega))
    have g2 := g.2 (by omega)
    rw [Nat.add_assoc] at g2
    exact ⟨(h _ (by omega) g2).1, g2⟩
  refine ⟨⟨h1.1, h2, h3⟩, ?_⟩
  unfold hl
  split
  · exact h1.1
  · split
    · have := (h2 (by omega)).1; omega
    · have := (h3 (by omega)).1; omega
theorem isStart_nI {σ : SG} {a N : Nat} (ha : a < 1000) (hN : N ≤ 64) (hL : σ 0 0 = nI N) : f_isStart σ (nI a) = if a < N ∧ ¬ σ 3 a = 0 then 1 else 0 := by
  unfold f_isStart
  rw [if_neg (nI_pos (by omega)), hL, nI_clamp (by omega)]
  by_cases h : a < N
  · rw [if_neg (nI_ge h (by omega))]
    by_cases h2 : σ 3 a = 0
    · rw [if_pos h2, if_neg (fun q => q.2 h2)]
    · rw [if_neg h2, if_pos ⟨h, h2⟩]
  · rw [if_pos (nI_le (by omega) (by omega)), if_neg (fun q => h q.1)]
theorem sl_free {σ : SG} {a : Int32} (h : 0 ≤ slN σ a 4) : ∃ s, s < 4 ∧ slN σ a 4 = nI s ∧ σ 7 s = a := by
  rcases slN_spec σ a 4 with ⟨h1, -⟩ | ⟨j, h1, h2, h3⟩
  · rw [h1] at h; exact absurd h (by decide)
  · exact ⟨j, h1, h2, h3⟩
set_option maxHeartbeats 400000 in
set_option maxRecDepth 10000 in
theorem c_H_hook (σ μ : SG) (a N : Nat) (ha : a < 64) (hN : N ≤ 64) (hL : σ 0 0 = nI N) (hC : Chn (σ 1) (σ 3) N) : CF k_H_hook [.inr 0, .inl (nI a)] (σ, μ) (some (if slN σ (nI a) 4 < 0 then (if 0 ≤ slN σ (-1) 4 then (if f_isStart σ (nI a) = 0 then -4 else if nI (a + 3) ≤ nI N then (if mtN σ (nI a) (nI (hl (σ 1) a)) 4 = 0 then (if amN (σ 1) (σ 3) (nI a) (nI (hl (σ 1) a)) N = 0 then nI (hl (σ 1) a) else -4) else -4) else -4) else -2) else -3)) (if slN σ (nI a) 4 < 0 then (if 0 ≤ slN σ (-1) 4 then (if f_isStart σ (nI a) = 0 then σ else if nI (a + 3) ≤ nI N then (if mtN σ (nI a) (nI (hl (σ 1) a)) 4 = 0 then (if amN (σ 1) (σ 3) (nI a) (nI (hl (σ 1) a)) N = 0 then f_hook σ (slN σ (-1) 4).toNatClampNeg a else σ) else σ) else σ) else σ) else σ, μ) := by
  have hL2 : σ 0 0 ≤ 64 := by rw [hL]; exact nI_le hN (by decide)
  have hlin := hl_in (σ 1) a
  refine CF.of rfl rfl (Nat.le_of_ble_eq_true rfl) (L := [some (.inr 0), some (.inl (nI a)), none, none, none, none, none]) rfl ?_
  refine P_iload_n d_H_hook_0 rfl ?_
  refine P_if_lt 10 d_H_hook_1 (by decide) (fun c1 => False.elim (nI_pos (by omega) c1)) (fun c1 => ?_)
  refine P_iload_n d_H_hook_4 rfl ?_
  refine P_bipush (v := 64) d_H_hook_5 (by decide) ?_
  refine P_icmp_lt 12 d_H_hook_7 (by decide) (fun c7 => ?_) (fun c7 => False.elim (c7 (nI_lt ha (by decide))))
  refine P_aload_n d_H_hook_12 rfl ?_
  refine P_iload_n d_H_hook_13 rfl ?_
  refine cl_H_slotOf (c_H_slotOf _ _ _) d_H_hook_14 (Nat.le_of_ble_eq_true rfl) ?_
  refine P_istore_n (L' := [some (.inr 0), some (.inl _), some (.inl _), none, none, none, none]) d_H_hook_17 (by decide) rfl ?_
  refine P_iload_n d_H_hook_18 rfl ?_
  refine P_if_lt 25 d_H_hook_19 (by decide) (fun c19 => ?_) (fun c19 => ?_)
  · refine P_aload_n d_H_hook_25 rfl ?_
    refine P_iconst (v := (-1)) d_H_hook_26 (by decide) ?_
    refine cl_H_slotOf (c_H_slotOf _ _ _) d_H_hook_27 (Nat.le_of_ble_eq_true rfl) ?_
    refine P_istore_n (L' := [some (.inr 0), some (.inl _), some (.inl _), none, none, none, none]) d_H_hook_30 (by decide) rfl ?_
    refine P_iload_n d_H_hook_31 rfl ?_
    refine P_if_ge 38 d_H_hook_32 (by decide) (fun c32 => ?_) (fun c32 => ?_)
    · refine P_aload_n d_H_hook_38 rfl ?_
      refine P_iload_n d_H_hook_39 rfl ?_
      refine cl_H_isStart (c_H_isStart _ _ _ hL2) d_H_hook_40 (Nat.le_of_ble_eq_true rfl) ?_
      refine P_istore_n (L' := [some (.inr 0), some (.inl _), some (.inl _), some (.inl _), none, none, none]) d_H_hook_43 (by decide) rfl ?_
      refine P_iload_n d_H_hook_44 rfl ?_
      refine P_if_eq 58 d_H_hook_45 (by decide) (fun c45 => ?_) (fun c45 => ?_)
      · refine P_bipush (v := (-4)) d_H_hook_58 (by decide) ?_
        exact P_iret d_H_hook_60 (by simp [*]) (by simp [*] <;> rfl)
      · refine P_iload_n d_H_hook_48 rfl ?_
        refine P_iconst (v := 3) d_H_hook_49 (by decide) ?_
        refine P_iadd d_H_hook_50 ?_
        refine P_top (y := nI (a + 3)) (nI_add a 3) ?_
        refine P_aload_n d_H_hook_51 rfl ?_
        refine g_H_length d_H_hook_52 ?_
        refine P_top (y := nI N) (hL) ?_
        refine P_icmp_le 61 d_H_hook_55 (by decide) (fun c55 => ?_) (fun c55 => ?_)
        · have ha3 : a + 3 ≤ N := (nI_leI (by omega) (by omega)).mp c55
          have hst : ¬ σ 3 a = 0 := by
            rw [isStart_nI (by omega) hN hL] at c45
            intro q
            rw [if_neg (fun z => z.2 q)] at c45
            exact c45 rfl
          have hd := hC.head ha3 hst
          refine P_aload_n d_H_hook_61 rfl ?_
          refine P_iload_n d_H_hook_62 rfl ?_
          refine cl_H_headOf (c_H_headOf _ _ a (by omega)) d_H_hook_63 (Nat.le_of_ble_eq_true rfl) ?_
          refine P_istore (L' := [some (.inr 0), some (.inl _), some (.inl _), some (.inl _), some (.inl _), none, none]) d_H_hook_66 (by decide) rfl ?_
          refine P_aload_n d_H_hook_68 rfl ?_
          refine P_iload_n d_H_hook_69 rfl ?_
          refine P_iload d_H_hook_70 rfl ?_
          refine cl_H_meetsHead (c_H_meetsHead _ _ _ _) d_H_hook_72 (Nat.le_of_ble_eq_true rfl) ?_
          refine P_istore (L' := [some (.inr 0), some (.inl _), some (.inl _), some (.inl _), some (.inl _), some (.inl _), none]) d_H_hook_75 (by decide) rfl ?_
          refine P_aload_n d_H_hook_77 rfl ?_
          refine P_iload_n d_H_hook_78 rfl ?_
          refine P_iload d_H_hook_79 rfl ?_
          refine cl_H_aimedInside (c_H_aimedInside _ _ _ _ N hN hL (fun x hx hs => Nat.le_trans (hC x hx hs).1 hN)) d_H_hook_81 (Nat.le_of_ble_eq_true rfl) ?_
          refine P_istore (L' := [some (.inr 0), some (.inl _), some (.inl _), some (.inl _), some (.inl _), some (.inl _), some (.inl _)]) d_H_hook_84 (by decide) rfl ?_
          refine P_iload d_H_hook_86 rfl ?_
          refine P_if_ne 96 d_H_hook_88 (by decide) (fun c88 => ?_) (fun c88 => ?_)
          · refine P_bipush (v := (-4)) d_H_hook_96 (by decide) ?_
            exact P_iret d_H_hook_98 (by simp [*]) (by simp [*] <;> rfl)
          · refine P_iload d_H_hook_91 rfl ?_
            refine P_if_eq 99 d_H_hook_93 (by decide) (fun c93 => ?_) (fun c93 => ?_)
            · obtain ⟨s, hs, es, -⟩ := sl_free c32
              have hc9 : (slN σ (-1) 4).toNatClampNeg = s := by rw [es]; exact nI_clamp (by omega)
              rw [hc9]
              rw [es] at c32 ⊢
              refine P_aload_n d_H_hook_99 rfl ?_
              refine g_H_hookAt d_H_hook_100 ?_
              refine P_iload_n d_H_hook_103 rfl ?_
              refine P_iload_n d_H_hook_104 rfl ?_
              refine P_iast ar_7 (vp_in_nI hs (by decide)) d_H_hook_105 ?_
              refine P_aload_n d_H_hook_106 rfl ?_
              refine g_H_headLength d_H_hook_107 ?_
              refine P_iload_n d_H_hook_110 rfl ?_
              refine P_iload d_H_hook_111 rfl ?_
              refine P_iast ar_8 (vp_in_nI hs (by decide)) d_H_hook_113 ?_
              refine P_aload_n d_H_hook_114 rfl ?_
              refine g_H_count d_H_hook_115 ?_
              refine P_iload_n d_H_hook_118 rfl ?_
              refine P_iconst (v := 0) d_H_hook_119 (by decide) ?_
              refine P_iast ar_9 (vp_in_nI hs (by decide)) d_H_hook_120 ?_
              refine PW_S (σ2 := (ss (ss (ss σ 7 s (nI a)) 8 s (nI (hl (σ 1) a))) 9 s 0, μ)) (by rw [nI_clamp (by omega)]) ?_
              refine P_aload_n d_H_hook_121 rfl ?_
              refine P_iload_n d_H_hook_122 rfl ?_
              refine P_iload_n d_H_hook_123 rfl ?_
              refine P_iload d_H_hook_124 rfl ?_
              refine cl_H_displace (c_H_displace (ss (ss (ss σ 7 s (nI a)) 8 s (nI (hl (σ 1) a))) 9 s 0) _ s a hs (by omega) (Nat.le_trans hd.1.1 hN) (fun q => Nat.le_trans (hd.1.2.1 q).1 hN) (fun q => Nat.le_trans (hd.1.2.2 q).1 hN)) d_H_hook_126 (Nat.le_of_ble_eq_true rfl) ?_
              refine P_aload_n d_H_hook_129 rfl ?_
              refine P_iload_n d_H_hook_130 rfl ?_
              refine P_iload_n d_H_hook_131 rfl ?_
              refine P_iload d_H_hook_132 rfl ?_
              refine cl_H_overwrite (c_H_overwrite _ _ s a _ hs hlin.1 (Nat.le_trans hd.2 hN)) d_H_hook_134 (Nat.le_of_ble_eq_true rfl) ?_
              refine P_iload d_H_hook_137 rfl ?_
              exact P_iret d_H_hook_139 (by simp [*]) (by simp [*] <;> rfl)
            · refine P_bipush (v := (-4)) d_H_hook_96 (by decide) ?_
              exact P_iret d_H_hook_98 (by simp [*]) (by simp [*] <;> rfl)
        · refine P_bipush (v := (-4)) d_H_hook_58 (by decide) ?_
          exact P_iret d_H_hook_60 (by simp [*]) (by simp [*] <;> rfl)
    · refine P_bipush (v := (-2)) d_H_hook_35 (by decide) ?_
      exact P_iret d_H_hook_37 (by simp [*]) (by simp [*] <;> rfl)
  · refine P_bipush (v := (-3)) d_H_hook_22 (by decide) ?_
    exact P_iret d_H_hook_24 (by simp [*]) (by simp [*] <;> rfl)
set_option maxHeartbeats 400000 in
set_option maxRecDepth 10000 in
theorem c_H_hook_bad (σ μ : SG) (a : Int32) (h : a < 0 ∨ ¬ a < 64) : CF k_H_hook [.inr 0, .inl a] (σ, μ) (some (-1)) (σ, μ) := by
  refine CF.of rfl rfl (Nat.le_of_ble_eq_true rfl) (L := [some (.inr 0), some (.inl a), none, none, none, none, none]) rfl ?_
  refine P_iload_n d_H_hook_0 rfl ?_
  refine P_if_lt 10 d_H_hook_1 (by decide) (fun c1 => ?_) (fun c1 => ?_)
  · refine P_iconst (v := (-1)) d_H_hook_10 (by decide) ?_
    exact P_iret d_H_hook_11 (by rfl) (by rfl)
  · refine P_iload_n d_H_hook_4 rfl ?_
    refine P_bipush (v := 64) d_H_hook_5 (by decide) ?_
    refine P_icmp_lt 12 d_H_hook_7 (by decide) (fun c7 => False.elim (h.elim c1 (fun q => q c7))) (fun c7 => ?_)
    refine P_iconst (v := (-1)) d_H_hook_10 (by decide) ?_
    exact P_iret d_H_hook_11 (by rfl) (by rfl)
def cpN (σ : SG) (a : Nat) : Nat → SG
  | 0 => σ
  | k + 1 => ss (cpN σ a k) 2 (a + k) (σ 1 (a + k))
theorem cpN_o (σ : SG) (a k c : Nat) (hc : ¬ c = 2) : (cpN σ a k) c = σ c := by
  induction k with
  | zero => rfl
  | succ k ih => show (ss (cpN σ a k) 2 (a + k) (σ 1 (a + k))) c = σ c; unfold ss; rw [if_neg hc]; exact ih
def f_unh (σ : SG) (s a : Nat) : SG := ss (cpN σ a (σ 8 s).toNatClampNeg) 7 s (-1)
set_option maxHeartbeats 400000 in
set_option maxRecDepth 10000 in
theorem lp_H_unhook (σ μ : SG) (a s m : Nat) (hs : s < 4) (hm : σ 8 s = nI m) (ham : a + m ≤ 64) : ∀ (n j : Nat), j + n = m → PW k_H_unhook (some (σ 9 s)) (ss (cpN σ a m) 7 s (-1), μ) 27 [some (.inr 0), some (.inl (nI a)), some (.inl (nI s)), some (.inl (nI j))] [] (cpN σ a j, μ) := by
  intro n
  induction n with
  | zero =>
    intro j hj
    rw [show j = m by omega]
    refine P_iload_n d_H_unhook_27 rfl ?_
    refine P_aload_n d_H_unhook_28 rfl ?_
    refine g_H_headLength d_H_unhook_29 ?_
    refine P_iload_n d_H_unhook_32 rfl ?_
    refine P_iald ar_8 (vp_in_nI hs (by decide)) d_H_unhook_33 ?_
    refine P_top (y := nI m) (by rw [nI_clamp (by omega), cpN_o _ _ _ _ (by decide)]; exact hm) ?_
    refine P_icmp_ge 59 d_H_unhook_34 (by decide) (fun c34 => ?_) (fun c34 => False.elim (c34 (Int32.le_refl _)))
    refine P_aload_n d_H_unhook_59 rfl ?_
    refine g_H_hookAt d_H_unhook_60 ?_
    refine P_iload_n d_H_unhook_63 rfl ?_
    refine P_iconst (v := (-1)) d_H_unhook_64 (by decide) ?_
    refine P_iast ar_7 (vp_in_nI hs (by decide)) d_H_unhook_65 ?_
    refine PW_S (σ2 := (ss (cpN σ a m) 7 s (-1), μ)) (by rw [nI_clamp (by omega)]) ?_
    refine P_aload_n d_H_unhook_66 rfl ?_
    refine g_H_count d_H_unhook_67 ?_
    refine P_iload_n d_H_unhook_70 rfl ?_
    refine P_iald ar_9 (vp_in_nI hs (by decide)) d_H_unhook_71 ?_
    refine P_top (y := σ 9 s) (by rw [nI_clamp (by omega)]; show (cpN σ a m) 9 s = _; rw [cpN_o _ _ _ _ (by decide)]) ?_
    exact P_iret d_H_unhook_72 (by rfl) (by rfl)
  | succ n ih =>
    intro j hj
    refine P_iload_n d_H_unhook_27 rfl ?_
    refine P_aload_n d_H_unhook_28 rfl ?_
    refine g_H_headLength d_H_unhook_29 ?_
    refine P_iload_n d_H_unhook_32 rfl ?_
    refine P_iald ar_8 (vp_in_nI hs (by decide)) d_H_unhook_33 ?_
    refine P_top (y := nI m) (by rw [nI_clamp (by omega), cpN_o _ _ _ _ (by decide)]; exact hm) ?_
    refine P_icmp_ge 59 d_H_unhook_34 (by decide) (fun c34 => False.elim (nI_ge (show j < m by omega) (by omega) c34)) (fun c34 => ?_)
    refine P_aload_n d_H_unhook_37 rfl ?_
    refine g_H_code d_H_unhook_38 ?_
    refine P_iload_n d_H_unhook_41 rfl ?_
    refine P_iload_n d_H_unhook_42 rfl ?_
    refine P_iadd d_H_unhook_43 ?_
    refine P_top (y := nI (a + j)) (nI_add _ _) ?_
    refine P_aload_n d_H_unhook_44 rfl ?_
    refine g_H_plain d_H_unhook_45 ?_
    refine P_iload_n d_H_unhook_48 rfl ?_
    refine P_iload_n d_H_unhook_49 rfl ?_
    refine P_iadd d_H_unhook_50 ?_
    refine P_top (y := nI (a + j)) (nI_add _ _) ?_
    refine P_iald ar_1 (vp_in_nI (by omega) (by decide)) d_H_unhook_51 ?_
    refine P_top (y := σ 1 (a + j)) (by rw [nI_clamp (by omega), cpN_o _ _ _ _ (by decide)]) ?_
    refine P_iast ar_2 (vp_in_nI (by omega) (by decide)) d_H_unhook_52 ?_
    refine PW_S (σ2 := (cpN σ a (j + 1), μ)) (by rw [nI_clamp (by omega)]; rfl) ?_
    refine P_iinc (v := nI (j + 1)) (L' := [some (.inr 0), some (.inl _), some (.inl _), some (.inl _)]) d_H_unhook_53 rfl (ofInt1 j) (by decide) rfl ?_
    refine P_goto 27 d_H_unhook_56 (by decide) ?_
    exact ih (j + 1) (by omega)
set_option maxHeartbeats 400000 in
set_option maxRecDepth 10000 in
theorem c_H_unhook (σ μ : SG) (a : Nat) (ha : a < 64) (hh : ∀ h, h < 4 → σ 7 h = nI a → ∃ m, σ 8 h = nI m ∧ a + m ≤ 64) : CF k_H_unhook [.inr 0, .inl (nI a)] (σ, μ) (some (if 0 ≤ slN σ (nI a) 4 then σ 9 (slN σ (nI a) 4).toNatClampNeg else -3)) (if 0 ≤ slN σ (nI a) 4 then f_unh σ (slN σ (nI a) 4).toNatClampNeg a else σ, μ) := by
  refine CF.of rfl rfl (Nat.le_of_ble_eq_true rfl) (L := [some (.inr 0), some (.inl (nI a)), none, none]) rfl ?_
  refine P_iload_n d_H_unhook_0 rfl ?_
  refine P_if_lt 10 d_H_unhook_1 (by decide) (fun c1 => False.elim (nI_pos (by omega) c1)) (fun c1 => ?_)
  refine P_iload_n d_H_unhook_4 rfl ?_
  refine P_bipush (v := 64) d_H_unhook_5 (by decide) ?_
  refine P_icmp_lt 12 d_H_unhook_7 (by decide) (fun c7 => ?_) (fun c7 => False.elim (c7 (nI_lt ha (by decide))))
  refine P_aload_n d_H_unhook_12 rfl ?_
  refine P_iload_n d_H_unhook_13 rfl ?_
  refine cl_H_slotOf (c_H_slotOf _ _ _) d_H_unhook_14 (Nat.le_of_ble_eq_true rfl) ?_
  refine P_istore_n (L' := [some (.inr 0), some (.inl _), some (.inl _), none]) d_H_unhook_17 (by decide) rfl ?_
  refine P_iload_n d_H_unhook_18 rfl ?_
  refine P_if_ge 25 d_H_unhook_19 (by decide) (fun c19 => ?_) (fun c19 => ?_)
  · obtain ⟨s, hs, es, e7⟩ := sl_free c19
    obtain ⟨m, hm, ham⟩ := hh s hs e7
    have hc9 : (slN σ (nI a) 4).toNatClampNeg = s := by rw [es]; exact nI_clamp (by omega)
    rw [if_pos c19, if_pos c19, hc9, es]
    have hu : f_unh σ s a = ss (cpN σ a m) 7 s (-1) := by unfold f_unh; rw [hm, nI_clamp (by omega)]
    rw [hu]
    refine P_iconst (v := 0) d_H_unhook_25 (by decide) ?_
    refine P_istore_n (L' := [some (.inr 0), some (.inl _), some (.inl _), some (.inl 0)]) d_H_unhook_26 (by decide) rfl ?_
    exact lp_H_unhook σ μ a s m hs hm ham m 0 (by omega)
  · refine P_bipush (v := (-3)) d_H_unhook_22 (by decide) ?_
    exact P_iret d_H_unhook_24 (by simp [*]) (by simp [*])
set_option maxHeartbeats 400000 in
set_option maxRecDepth 10000 in
theorem c_H_unhook_bad (σ μ : SG) (a : Int32) (h : a < 0 ∨ ¬ a < 64) : CF k_H_unhook [.inr 0, .inl a] (σ, μ) (some (-1)) (σ, μ) := by
  refine CF.of rfl rfl (Nat.le_of_ble_eq_true rfl) (L := [some (.inr 0), some (.inl a), none, none]) rfl ?_
  refine P_iload_n d_H_unhook_0 rfl ?_
  refine P_if_lt 10 d_H_unhook_1 (by decide) (fun c1 => ?_) (fun c1 => ?_)
  · refine P_iconst (v := (-1)) d_H_unhook_10 (by decide) ?_
    exact P_iret d_H_unhook_11 (by rfl) (by rfl)
  · refine P_iload_n d_H_unhook_4 rfl ?_
    refine P_bipush (v := 64) d_H_unhook_5 (by decide) ?_
    refine P_icmp_lt 12 d_H_unhook_7 (by decide) (fun c7 => False.elim (h.elim c1 (fun q => q c7))) (fun c7 => ?_)
    refine P_iconst (v := (-1)) d_H_unhook_10 (by decide) ?_
    exact P_iret d_H_unhook_11 (by rfl) (by rfl)
end
section
def cntM (μ : SG) : Nat → Int32
  | 0 => 0
  | n + 1 => if μ 21 n = 0 then cntM μ n else cntM μ n + 1
set_option maxHeartbeats 400000 in
set_option maxRecDepth 10000 in
theorem lp_M_hooks (σ μ : SG) : ∀ (n i : Nat), i + n = 64 → PW k_M_hooks (some (cntM μ 64)) (σ, μ) 4 [some (.inr 16), some (.inl (cntM μ i)), some (.inl (nI i))] [] (σ, μ) := by
  intro n
  induction n with
  | zero =>
    intro i hi
    obtain rfl : i = 64 := by omega
    refine P_iload_n d_M_hooks_4 rfl ?_
    refine P_bipush (v := 64) d_M_hooks_5 (by decide) ?_
    refine P_icmp_ge 28 d_M_hooks_7 (by decide) (fun c7 => ?_) (fun c7 => False.elim (c7 (by decide)))
    refine P_iload_n d_M_hooks_28 rfl ?_
    exact P_iret d_M_hooks_29 (by rfl) (by rfl)
  | succ n ih =>
    intro i hi
    have h4 : i < 64 := by omega
    refine P_iload_n d_M_hooks_4 rfl ?_
    refine P_bipush (v := 64) d_M_hooks_5 (by decide) ?_
    refine P_icmp_ge 28 d_M_hooks_7 (by decide) (fun c7 => False.elim (nI_ge h4 (by decide) c7)) (fun c7 => ?_)
    refine P_aload_n d_M_hooks_10 rfl ?_
    refine g_M_hooked d_M_hooks_11 ?_
    refine P_iload_n d_M_hooks_14 rfl ?_
    refine Q_zald ar_21 (vp_in_nI h4 (by decide)) d_M_hooks_15 ?_
    refine P_top (y := μ 21 i) (by rw [nI_clamp (by omega)]) ?_
    refine P_if_eq 22 d_M_hooks_16 (by decide) (fun c16 => ?_) (fun c16 => ?_)
    · refine P_iinc (v := nI (i + 1)) (L' := [some (.inr 16), some (.inl _), some (.inl _)]) d_M_hooks_22 rfl (ofInt1 i) (by decide) rfl ?_
      refine P_goto 4 d_M_hooks_25 (by decide) ?_
      exact PW_L (by simp [cntM, c16]) (ih (i + 1) (by omega))
    · refine P_iinc (v := _ + 1) (L' := [some (.inr 16), some (.inl _), some (.inl _)]) d_M_hooks_19 rfl (rfl) (by decide) rfl ?_
      refine P_iinc (v := nI (i + 1)) (L' := [some (.inr 16), some (.inl _), some (.inl _)]) d_M_hooks_22 rfl (ofInt1 i) (by decide) rfl ?_
      refine P_goto 4 d_M_hooks_25 (by decide) ?_
      exact PW_L (by simp [cntM, c16]) (ih (i + 1) (by omega))
set_option maxHeartbeats 400000 in
set_option maxRecDepth 10000 in
theorem c_M_hooks (σ μ : SG) : CF k_M_hooks [.inr 16] (σ, μ) (some (cntM μ 64)) (σ, μ) := by
  refine CF.of rfl rfl (Nat.le_of_ble_eq_true rfl) (L := [some (.inr 16), none, none]) rfl ?_
  refine P_iconst (v := 0) d_M_hooks_0 (by decide) ?_
  refine P_istore_n (L' := [some (.inr 16), some (.inl 0), none]) d_M_hooks_1 (by decide) rfl ?_
  refine P_iconst (v := 0) d_M_hooks_2 (by decide) ?_
  refine P_istore_n (L' := [some (.inr 16), some (.inl 0), some (.inl 0)]) d_M_hooks_3 (by decide) rfl ?_
  exact lp_M_hooks σ μ 64 0 rfl
def mem (μ : SG) (n : Nat) (b s : Int32) : SG := ss (ss (ss μ 17 n b) 18 n s) 16 2 (nI (n + 1))
def ma1 (μ : SG) (n : Nat) (k : Int32) : SG := mem μ n k 1
def ma2 (μ : SG) (n : Nat) (k b : Int32) : SG := mem (mem μ n k 1) (n + 1) (b &&& 255) 0
def ma3 (μ : SG) (n : Nat) (k b c : Int32) : SG := mem (mem (mem μ n k 1) (n + 1) (b &&& 255) 0) (n + 2) (c &&& 255) 0
def maR (μ : SG) (n s : Nat) : Int32 := if cntM μ 64 ≤ 0 then (if nI (n + s) ≤ 64 then nI n else -2) else -3
def maS (μ : SG) (n s : Nat) (μ2 : SG) : SG := if cntM μ 64 ≤ 0 then (if nI (n + s) ≤ 64 then μ2 else μ) else μ
set_option maxHeartbeats 400000 in
set_option maxRecDepth 10000 in
theorem c_M_append1 (σ μ : SG) (k b c : Int32) (n : Nat) (hn : n ≤ 64) (h : μ 16 2 = nI n) : CF k_M_append [.inr 16, .inl 1, .inl k, .inl b, .inl c] (σ, μ) (some (maR μ n 1)) (σ, maS μ n 1 (ma1 μ n k)) := by
  refine CF.of rfl rfl (Nat.le_of_ble_eq_true rfl) (L := [some (.inr 16), some (.inl 1), some (.inl k), some (.inl b), some (.inl c), none, none]) rfl ?_
  refine P_aload_n d_M_append_0 rfl ?_
  refine cl_M_hooks (c_M_hooks _ _) d_M_append_1 (Nat.le_of_ble_eq_true rfl) ?_
  refine P_if_le 10 d_M_append_4 (by decide) (fun c4 => ?_) (fun c4 => ?_)
  · refine P_aload_n d_M_append_10 rfl ?_
    refine g_M_length d_M_append_11 ?_
    refine P_top (y := nI n) (h) ?_
    refine P_iload_n d_M_append_14 rfl ?_
    refine P_iadd d_M_append_15 ?_
    refine P_top (y := nI (n + 1)) (nI_add n 1) ?_
    refine P_bipush (v := 64) d_M_append_16 (by decide) ?_
    refine P_icmp_le 24 d_M_append_18 (by decide) (fun c18 => ?_) (fun c18 => ?_)
    · have c18n : n + 1 ≤ 64 := (nI_leI (by omega) (by decide)).mp c18
      refine P_aload_n d_M_append_24 rfl ?_
      refine g_M_length d_M_append_25 ?_
      refine P_top (y := nI n) (h) ?_
      refine P_istore (L' := [some (.inr 16), some (.inl 1), some (.inl _), some (.inl _), some (.inl _), some (.inl _), none]) d_M_append_28 (by decide) rfl ?_
      refine P_iconst (v := 0) d_M_append_30 (by decide) ?_
      refine P_istore (L' := [some (.inr 16), some (.inl 1), some (.inl _), some (.inl _), some (.inl _), some (.inl _), some (.inl 0)]) d_M_append_31 (by decide) rfl ?_
      refine P_iload d_M_append_33 rfl ?_
      refine P_iload_n d_M_append_35 rfl ?_
      refine P_icmp_ge 112 d_M_append_36 (by decide) (fun hc => absurd hc (by decide)) (fun _ => ?_)
      refine P_aload_n d_M_append_39 rfl ?_
      refine g_M_code d_M_append_40 ?_
      refine P_aload_n d_M_append_43 rfl ?_
      refine g_M_length d_M_append_44 ?_
      refine P_top (y := nI n) (h) ?_
      refine P_iload d_M_append_47 rfl ?_
      refine P_if_ne 56 d_M_append_49 (by decide) (fun hc => absurd hc (by decide)) (fun _ => ?_)
      refine P_iload_n d_M_append_52 rfl ?_
      refine P_goto 76 d_M_append_53 (by decide) ?_
      refine Q_iast ar_17 (vp_in_nI (by omega) (by decide)) d_M_append_76 ?_
      refine P_aload_n d_M_append_77 rfl ?_
      refine g_M_begins d_M_append_78 ?_
      refine P_aload_n d_M_append_81 rfl ?_
      refine g_M_length d_M_append_82 ?_
      refine P_top (y := nI n) (h) ?_
      refine P_iload d_M_append_85 rfl ?_
      refine P_if_ne 94 d_M_append_87 (by decide) (fun hc => absurd hc (by decide)) (fun _ => ?_)
      refine P_iconst (v := 1) d_M_append_90 (by decide) ?_
      refine P_goto 95 d_M_append_91 (by decide) ?_
      refine Q_zast (y := 1) ar_18 (vp_in_nI (by omega) (by decide)) (by rfl) d_M_append_95 ?_
      refine P_aload_n d_M_append_96 rfl ?_
      refine P_dup d_M_append_97 ?_
      refine g_M_length d_M_append_98 ?_
      refine P_top (y := nI n) (h) ?_
      refine P_iconst (v := 1) d_M_append_101 (by decide) ?_
      refine P_iadd d_M_append_102 ?_
      refine P_top (y := nI (n + 1)) (nI_1 n) ?_
      refine s_M_length d_M_append_103 ?_
      refine PW_S (σ2 := (σ, mem μ n k 1)) (by rw [nI_clamp (by omega)]; rfl) ?_
      refine P_iinc (v := 1) (L' := [some (.inr 16), some (.inl 1), some (.inl _), some (.inl _), some (.inl _), some (.inl _), some (.inl 1)]) d_M_append_106 rfl (by decide) (by decide) rfl ?_
      refine P_goto 33 d_M_append_109 (by decide) ?_
      refine P_iload d_M_append_33 rfl ?_
      refine P_iload_n d_M_append_35 rfl ?_
      refine P_icmp_ge 112 d_M_append_36 (by decide) (fun _ => ?_) (fun hc => absurd hc (by decide))
      refine P_iload d_M_append_112 rfl ?_
      exact P_iret d_M_append_114 (by simp [maR, *]) (by simp [maS, ma1, *])
    · refine P_bipush (v := (-2)) d_M_append_21 (by decide) ?_
      exact P_iret d_M_append_23 (by simp [maR, *]) (by simp [maS, ma1, *])
  · refine P_bipush (v := (-3)) d_M_append_7 (by decide) ?_
    exact P_iret d_M_append_9 (by simp [maR, *]) (by simp [maS, ma1, *])
set_option maxHeartbeats 400000 in
set_option maxRecDepth 10000 in
theorem c_M_append2 (σ μ : SG) (k b c : Int32) (n : Nat) (hn : n ≤ 64) (h : μ 16 2 = nI n) : CF k_M_append [.inr 16, .inl 2, .inl k, .inl b, .inl c] (σ, μ) (some (maR μ n 2)) (σ, maS μ n 2 (ma2 μ n k b)) := by
  refine CF.of rfl rfl (Nat.le_of_ble_eq_true rfl) (L := [some (.inr 16), some (.inl 2), some (.inl k), some (.inl b), some (.inl c), none, none]) rfl ?_
  refine P_aload_n d_M_append_0 rfl ?_
  refine cl_M_hooks (c_M_hooks _ _) d_M_append_1 (Nat.le_of_ble_eq_true rfl) ?_
  refine P_if_le 10 d_M_append_4 (by decide) (fun c4 => ?_) (fun c4 => ?_)
  · refine P_aload_n d_M_append_10 rfl ?_
    refine g_M_length d_M_append_11 ?_
    refine P_top (y := nI n) (h) ?_
    refine P_iload_n d_M_append_14 rfl ?_
    refine P_iadd d_M_append_15 ?_
    refine P_top (y := nI (n + 2)) (nI_add n 2) ?_
    refine P_bipush (v := 64) d_M_append_16 (by decide) ?_
    refine P_icmp_le 24 d_M_append_18 (by decide) (fun c18 => ?_) (fun c18 => ?_)
    · have c18n : n + 2 ≤ 64 := (nI_leI (by omega) (by decide)).mp c18
      refine P_aload_n d_M_append_24 rfl ?_
      refine g_M_length d_M_append_25 ?_
      refine P_top (y := nI n) (h) ?_
      refine P_istore (L' := [some (.inr 16), some (.inl 2), some (.inl _), some (.inl _), some (.inl _), some (.inl _), none]) d_M_append_28 (by decide) rfl ?_
      refine P_iconst (v := 0) d_M_append_30 (by decide) ?_
      refine P_istore (L' := [some (.inr 16), some (.inl 2), some (.inl _), some (.inl _), some (.inl _), some (.inl _), some (.inl 0)]) d_M_append_31 (by decide) rfl ?_
      refine P_iload d_M_append_33 rfl ?_
      refine P_iload_n d_M_append_35 rfl ?_
      refine P_icmp_ge 112 d_M_append_36 (by decide) (fun hc => absurd hc (by decide)) (fun _ => ?_)
      refine P_aload_n d_M_append_39 rfl ?_
      refine g_M_code d_M_append_40 ?_
      refine P_aload_n d_M_append_43 rfl ?_
      refine g_M_length d_M_append_44 ?_
      refine P_top (y := nI n) (h) ?_
      refine P_iload d_M_append_47 rfl ?_
      refine P_if_ne 56 d_M_append_49 (by decide) (fun hc => absurd hc (by decide)) (fun _ => ?_)
      refine P_iload_n d_M_append_52 rfl ?_
      refine P_goto 76 d_M_append_53 (by decide) ?_
      refine Q_iast ar_17 (vp_in_nI (by omega) (by decide)) d_M_append_76 ?_
      refine P_aload_n d_M_append_77 rfl ?_
      refine g_M_begins d_M_append_78 ?_
      refine P_aload_n d_M_append_81 rfl ?_
      refine g_M_length d_M_append_82 ?_
      refine P_top (y := nI n) (h) ?_
      refine P_iload d_M_append_85 rfl ?_
      refine P_if_ne 94 d_M_append_87 (by decide) (fun hc => absurd hc (by decide)) (fun _ => ?_)
      refine P_iconst (v := 1) d_M_append_90 (by decide) ?_
      refine P_goto 95 d_M_append_91 (by decide) ?_
      refine Q_zast (y := 1) ar_18 (vp_in_nI (by omega) (by decide)) (by rfl) d_M_append_95 ?_
      refine P_aload_n d_M_append_96 rfl ?_
      refine P_dup d_M_append_97 ?_
      refine g_M_length d_M_append_98 ?_
      refine P_top (y := nI n) (h) ?_
      refine P_iconst (v := 1) d_M_append_101 (by decide) ?_
      refine P_iadd d_M_append_102 ?_
      refine P_top (y := nI (n + 1)) (nI_1 n) ?_
      refine s_M_length d_M_append_103 ?_
      refine PW_S (σ2 := (σ, mem μ n k 1)) (by rw [nI_clamp (by omega)]; rfl) ?_
      refine P_iinc (v := 1) (L' := [some (.inr 16), some (.inl 2), some (.inl _), some (.inl _), some (.inl _), some (.inl _), some (.inl 1)]) d_M_append_106 rfl (by decide) (by decide) rfl ?_
      refine P_goto 33 d_M_append_109 (by decide) ?_
      refine P_iload d_M_append_33 rfl ?_
      refine P_iload_n d_M_append_35 rfl ?_
      refine P_icmp_ge 112 d_M_append_36 (by decide) (fun hc => absurd hc (by decide)) (fun _ => ?_)
      refine P_aload_n d_M_append_39 rfl ?_
      refine g_M_code d_M_append_40 ?_
      refine P_aload_n d_M_append_43 rfl ?_
      refine g_M_length d_M_append_44 ?_
      refine P_top (y := nI (n + 1)) (rfl) ?_
      refine P_iload d_M_append_47 rfl ?_
      refine P_if_ne 56 d_M_append_49 (by decide) (fun _ => ?_) (fun hc => absurd hc (by decide))
      refine P_iload d_M_append_56 rfl ?_
      refine P_iconst (v := 1) d_M_append_58 (by decide) ?_
      refine P_icmp_ne 70 d_M_append_59 (by decide) (fun hc => absurd hc (by decide)) (fun _ => ?_)
      refine P_iload_n d_M_append_62 rfl ?_
      refine P_sipush (v := 255) d_M_append_63 (by decide) ?_
      refine P_iand d_M_append_66 ?_
      refine P_goto 76 d_M_append_67 (by decide) ?_
      refine Q_iast ar_17 (vp_in_nI (by omega) (by decide)) d_M_append_76 ?_
      refine P_aload_n d_M_append_77 rfl ?_
      refine g_M_begins d_M_append_78 ?_
      refine P_aload_n d_M_append_81 rfl ?_
      refine g_M_length d_M_append_82 ?_
      refine P_top (y := nI (n + 1)) (rfl) ?_
      refine P_iload d_M_append_85 rfl ?_
      refine P_if_ne 94 d_M_append_87 (by decide) (fun _ => ?_) (fun hc => absurd hc (by decide))
      refine P_iconst (v := 0) d_M_append_94 (by decide) ?_
      refine Q_zast (y := 0) ar_18 (vp_in_nI (by omega) (by decide)) (by rfl) d_M_append_95 ?_
      refine P_aload_n d_M_append_96 rfl ?_
      refine P_dup d_M_append_97 ?_
      refine g_M_length d_M_append_98 ?_
      refine P_top (y := nI (n + 1)) (rfl) ?_
      refine P_iconst (v := 1) d_M_append_101 (by decide) ?_
      refine P_iadd d_M_append_102 ?_
      refine P_top (y := nI (n + 2)) (nI_1 (n + 1)) ?_
      refine s_M_length d_M_append_103 ?_
      refine PW_S (σ2 := (σ, mem (mem μ n k 1) (n + 1) (b &&& 255) 0)) (by rw [nI_clamp (by omega)]; rfl) ?_
      refine P_iinc (v := 2) (L' := [some (.inr 16), some (.inl 2), some (.inl _), some (.inl _), some (.inl _), some (.inl _), some (.inl 2)]) d_M_append_106 rfl (by decide) (by decide) rfl ?_
      refine P_goto 33 d_M_append_109 (by decide) ?_
      refine P_iload d_M_append_33 rfl ?_
      refine P_iload_n d_M_append_35 rfl ?_
      refine P_icmp_ge 112 d_M_append_36 (by decide) (fun _ => ?_) (fun hc => absurd hc (by decide))
      refine P_iload d_M_append_112 rfl ?_
      exact P_iret d_M_append_114 (by simp [maR, *]) (by simp [maS, ma2, *])
    · refine P_bipush (v := (-2)) d_M_append_21 (by decide) ?_
      exact P_iret d_M_append_23 (by simp [maR, *]) (by simp [maS, ma2, *])
  · refine P_bipush (v := (-3)) d_M_append_7 (by decide) ?_
    exact P_iret d_M_append_9 (by simp [maR, *]) (by simp [maS, ma2, *])
set_option maxHeartbeats 400000 in
set_option maxRecDepth 10000 in
theorem c_M_append3 (σ μ : SG) (k b c : Int32) (n : Nat) (hn : n ≤ 64) (h : μ 16 2 = nI n) : CF k_M_append [.inr 16, .inl 3, .inl k, .inl b, .inl c] (σ, μ) (some (maR μ n 3)) (σ, maS μ n 3 (ma3 μ n k b c)) := by
  refine CF.of rfl rfl (Nat.le_of_ble_eq_true rfl) (L := [some (.inr 16), some (.inl 3), some (.inl k), some (.inl b), some (.inl c), none, none]) rfl ?_
  refine P_aload_n d_M_append_0 rfl ?_
  refine cl_M_hooks (c_M_hooks _ _) d_M_append_1 (Nat.le_of_ble_eq_true rfl) ?_
  refine P_if_le 10 d_M_append_4 (by decide) (fun c4 => ?_) (fun c4 => ?_)
  · refine P_aload_n d_M_append_10 rfl ?_
    refine g_M_length d_M_append_11 ?_
    refine P_top (y := nI n) (h) ?_
    refine P_iload_n d_M_append_14 rfl ?_
    refine P_iadd d_M_append_15 ?_
    refine P_top (y := nI (n + 3)) (nI_add n 3) ?_
    refine P_bipush (v := 64) d_M_append_16 (by decide) ?_
    refine P_icmp_le 24 d_M_append_18 (by decide) (fun c18 => ?_) (fun c18 => ?_)
    · have c18n : n + 3 ≤ 64 := (nI_leI (by omega) (by decide)).mp c18
      refine P_aload_n d_M_append_24 rfl ?_
      refine g_M_length d_M_append_25 ?_
      refine P_top (y := nI n) (h) ?_
      refine P_istore (L' := [some (.inr 16), some (.inl 3), some (.inl _), some (.inl _), some (.inl _), some (.inl _), none]) d_M_append_28 (by decide) rfl ?_
      refine P_iconst (v := 0) d_M_append_30 (by decide) ?_
      refine P_istore (L' := [some (.inr 16), some (.inl 3), some (.inl _), some (.inl _), some (.inl _), some (.inl _), some (.inl 0)]) d_M_append_31 (by decide) rfl ?_
      refine P_iload d_M_append_33 rfl ?_
      refine P_iload_n d_M_append_35 rfl ?_
      refine P_icmp_ge 112 d_M_append_36 (by decide) (fun hc => absurd hc (by decide)) (fun _ => ?_)
      refine P_aload_n d_M_append_39 rfl ?_
      refine g_M_code d_M_append_40 ?_
      refine P_aload_n d_M_append_43 rfl ?_
      refine g_M_length d_M_append_44 ?_
      refine P_top (y := nI n) (h) ?_
      refine P_iload d_M_append_47 rfl ?_
      refine P_if_ne 56 d_M_append_49 (by decide) (fun hc => absurd hc (by decide)) (fun _ => ?_)
      refine P_iload_n d_M_append_52 rfl ?_
      refine P_goto 76 d_M_append_53 (by decide) ?_
      refine Q_iast ar_17 (vp_in_nI (by omega) (by decide)) d_M_append_76 ?_
      refine P_aload_n d_M_append_77 rfl ?_
      refine g_M_begins d_M_append_78 ?_
      refine P_aload_n d_M_append_81 rfl ?_
      refine g_M_length d_M_append_82 ?_
      refine P_top (y := nI n) (h) ?_
      refine P_iload d_M_append_85 rfl ?_
      refine P_if_ne 94 d_M_append_87 (by decide) (fun hc => absurd hc (by decide)) (fun _ => ?_)
      refine P_iconst (v := 1) d_M_append_90 (by decide) ?_
      refine P_goto 95 d_M_append_91 (by decide) ?_
      refine Q_zast (y := 1) ar_18 (vp_in_nI (by omega) (by decide)) (by rfl) d_M_append_95 ?_
      refine P_aload_n d_M_append_96 rfl ?_
      refine P_dup d_M_append_97 ?_
      refine g_M_length d_M_append_98 ?_
      refine P_top (y := nI n) (h) ?_
      refine P_iconst (v := 1) d_M_append_101 (by decide) ?_
      refine P_iadd d_M_append_102 ?_
      refine P_top (y := nI (n + 1)) (nI_1 n) ?_
      refine s_M_length d_M_append_103 ?_
      refine PW_S (σ2 := (σ, mem μ n k 1)) (by rw [nI_clamp (by omega)]; rfl) ?_
      refine P_iinc (v := 1) (L' := [some (.inr 16), some (.inl 3), some (.inl _), some (.inl _), some (.inl _), some (.inl _), some (.inl 1)]) d_M_append_106 rfl (by decide) (by decide) rfl ?_
      refine P_goto 33 d_M_append_109 (by decide) ?_
      refine P_iload d_M_append_33 rfl ?_
      refine P_iload_n d_M_append_35 rfl ?_
      refine P_icmp_ge 112 d_M_append_36 (by decide) (fun hc => absurd hc (by decide)) (fun _ => ?_)
      refine P_aload_n d_M_append_39 rfl ?_
      refine g_M_code d_M_append_40 ?_
      refine P_aload_n d_M_append_43 rfl ?_
      refine g_M_length d_M_append_44 ?_
      refine P_top (y := nI (n + 1)) (rfl) ?_
      refine P_iload d_M_append_47 rfl ?_
      refine P_if_ne 56 d_M_append_49 (by decide) (fun _ => ?_) (fun hc => absurd hc (by decide))
      refine P_iload d_M_append_56 rfl ?_
      refine P_iconst (v := 1) d_M_append_58 (by decide) ?_
      refine P_icmp_ne 70 d_M_append_59 (by decide) (fun hc => absurd hc (by decide)) (fun _ => ?_)
      refine P_iload_n d_M_append_62 rfl ?_
      refine P_sipush (v := 255) d_M_append_63 (by decide) ?_
      refine P_iand d_M_append_66 ?_
      refine P_goto 76 d_M_append_67 (by decide) ?_
      refine Q_iast ar_17 (vp_in_nI (by omega) (by decide)) d_M_append_76 ?_
      refine P_aload_n d_M_append_77 rfl ?_
      refine g_M_begins d_M_append_78 ?_
      refine P_aload_n d_M_append_81 rfl ?_
      refine g_M_length d_M_append_82 ?_
      refine P_top (y := nI (n + 1)) (rfl) ?_
      refine P_iload d_M_append_85 rfl ?_
      refine P_if_ne 94 d_M_append_87 (by decide) (fun _ => ?_) (fun hc => absurd hc (by decide))
      refine P_iconst (v := 0) d_M_append_94 (by decide) ?_
      refine Q_zast (y := 0) ar_18 (vp_in_nI (by omega) (by decide)) (by rfl) d_M_append_95 ?_
      refine P_aload_n d_M_append_96 rfl ?_
      refine P_dup d_M_append_97 ?_
      refine g_M_length d_M_append_98 ?_
      refine P_top (y := nI (n + 1)) (rfl) ?_
      refine P_iconst (v := 1) d_M_append_101 (by decide) ?_
      refine P_iadd d_M_append_102 ?_
      refine P_top (y := nI (n + 2)) (nI_1 (n + 1)) ?_
      refine s_M_length d_M_append_103 ?_
      refine PW_S (σ2 := (σ, mem (mem μ n k 1) (n + 1) (b &&& 255) 0)) (by rw [nI_clamp (by omega)]; rfl) ?_
      refine P_iinc (v := 2) (L' := [some (.inr 16), some (.inl 3), some (.inl _), some (.inl _), some (.inl _), some (.inl _), some (.inl 2)]) d_M_append_106 rfl (by decide) (by decide) rfl ?_
      refine P_goto 33 d_M_append_109 (by decide) ?_
      refine P_iload d_M_append_33 rfl ?_
      refine P_iload_n d_M_append_35 rfl ?_
      refine P_icmp_ge 112 d_M_append_36 (by decide) (fun hc => absurd hc (by decide)) (fun _ => ?_)
      refine P_aload_n d_M_append_39 rfl ?_
      refine g_M_code d_M_append_40 ?_
      refine P_aload_n d_M_append_43 rfl ?_
      refine g_M_length d_M_append_44 ?_
      refine P_top (y := nI (n + 2)) (rfl) ?_
      refine P_iload d_M_append_47 rfl ?_
      refine P_if_ne 56 d_M_append_49 (by decide) (fun _ => ?_) (fun hc => absurd hc (by decide))
      refine P_iload d_M_append_56 rfl ?_
      refine P_iconst (v := 1) d_M_append_58 (by decide) ?_
      refine P_icmp_ne 70 d_M_append_59 (by decide) (fun _ => ?_) (fun hc => absurd hc (by decide))
      refine P_iload d_M_append_70 rfl ?_
      refine P_sipush (v := 255) d_M_append_72 (by decide) ?_
      refine P_iand d_M_append_75 ?_
      refine Q_iast ar_17 (vp_in_nI (by omega) (by decide)) d_M_append_76 ?_
      refine P_aload_n d_M_append_77 rfl ?_
      refine g_M_begins d_M_append_78 ?_
      refine P_aload_n d_M_append_81 rfl ?_
      refine g_M_length d_M_append_82 ?_
      refine P_top (y := nI (n + 2)) (rfl) ?_
      refine P_iload d_M_append_85 rfl ?_
      refine P_if_ne 94 d_M_append_87 (by decide) (fun _ => ?_) (fun hc => absurd hc (by decide))
      refine P_iconst (v := 0) d_M_append_94 (by decide) ?_
      refine Q_zast (y := 0) ar_18 (vp_in_nI (by omega) (by decide)) (by rfl) d_M_append_95 ?_
      refine P_aload_n d_M_append_96 rfl ?_
      refine P_dup d_M_append_97 ?_
      refine g_M_length d_M_append_98 ?_
      refine P_top (y := nI (n + 2)) (rfl) ?_
      refine P_iconst (v := 1) d_M_append_101 (by decide) ?_
      refine P_iadd d_M_append_102 ?_
      refine P_top (y := nI (n + 3)) (nI_1 (n + 2)) ?_
      refine s_M_length d_M_append_103 ?_
      refine PW_S (σ2 := (σ, mem (mem (mem μ n k 1) (n + 1) (b &&& 255) 0) (n + 2) (c &&& 255) 0)) (by rw [nI_clamp (by omega)]; rfl) ?_
      refine P_iinc (v := 3) (L' := [some (.inr 16), some (.inl 3), some (.inl _), some (.inl _), some (.inl _), some (.inl _), some (.inl 3)]) d_M_append_106 rfl (by decide) (by decide) rfl ?_
      refine P_goto 33 d_M_append_109 (by decide) ?_
      refine P_iload d_M_append_33 rfl ?_
      refine P_iload_n d_M_append_35 rfl ?_
      refine P_icmp_ge 112 d_M_append_36 (by decide) (fun _ => ?_) (fun hc => absurd hc (by decide))
      refine P_iload d_M_append_112 rfl ?_
      exact P_iret d_M_append_114 (by simp [maR, *]) (by simp [maS, ma3, *])
    · refine P_bipush (v := (-2)) d_M_append_21 (by decide) ?_
      exact P_iret d_M_append_23 (by simp [maR, *]) (by simp [maS, ma3, *])
  · refine P_bipush (v := (-3)) d_M_append_7 (by decide) ?_
    exact P_iret d_M_append_9 (by simp [maR, *]) (by simp [maS, ma3, *])
set_option maxHeartbeats 400000 in
set_option maxRecDepth 10000 in
theorem c_M_halt (σ μ : SG) (n : Nat) (hn : n ≤ 64) (h : μ 16 2 = nI n) : CF k_M_halt [.inr 16] (σ, μ) (some (maR μ n 1)) (σ, maS μ n 1 (ma1 μ n 0)) := by
  refine CF.of rfl rfl (Nat.le_of_ble_eq_true rfl) (L := [some (.inr 16)]) rfl ?_
  refine P_aload_n d_M_halt_0 rfl ?_
  refine P_iconst (v := 1) d_M_halt_1 (by decide) ?_
  refine P_iconst (v := 0) d_M_halt_2 (by decide) ?_
  refine P_iconst (v := 0) d_M_halt_3 (by decide) ?_
  refine P_iconst (v := 0) d_M_halt_4 (by decide) ?_
  refine cl_M_append (c_M_append1 _ _ _ _ _ n hn h) d_M_halt_5 (Nat.le_of_ble_eq_true rfl) ?_
  exact P_iret d_M_halt_8 (by rfl) (by rfl)
set_option maxHeartbeats 400000 in
set_option maxRecDepth 10000 in
theorem c_M_giveBack (σ μ : SG) (n : Nat) (hn : n ≤ 64) (h : μ 16 2 = nI n) : CF k_M_giveBack [.inr 16] (σ, μ) (some (maR μ n 1)) (σ, maS μ n 1 (ma1 μ n 7)) := by
  refine CF.of rfl rfl (Nat.le_of_ble_eq_true rfl) (L := [some (.inr 16)]) rfl ?_
  refine P_aload_n d_M_giveBack_0 rfl ?_
  refine P_iconst (v := 1) d_M_giveBack_1 (by decide) ?_
  refine P_bipush (v := 7) d_M_giveBack_2 (by decide) ?_
  refine P_iconst (v := 0) d_M_giveBack_4 (by decide) ?_
  refine P_iconst (v := 0) d_M_giveBack_5 (by decide) ?_
  refine cl_M_append (c_M_append1 _ _ _ _ _ n hn h) d_M_giveBack_6 (Nat.le_of_ble_eq_true rfl) ?_
  exact P_iret d_M_giveBack_9 (by rfl) (by rfl)
set_option maxHeartbeats 400000 in
set_option maxRecDepth 10000 in
theorem c_M_inc (σ μ : SG) (r : Int32) (n : Nat) (hn : n ≤ 64) (h : μ 16 2 = nI n) : CF k_M_inc [.inr 16, .inl r] (σ, μ) (some (if m_isRegister r = 0 then -1 else maR μ n 2)) (σ, if m_isRegister r = 0 then μ else maS μ n 2 (ma2 μ n 1 r)) := by
  refine CF.of rfl rfl (Nat.le_of_ble_eq_true rfl) (L := [some (.inr 16), some (.inl r)]) rfl ?_
  refine P_aload_n d_M_inc_0 rfl ?_
  refine P_iload_n d_M_inc_1 rfl ?_
  refine cl_M_isRegister (c_M_isRegister _ _ _) d_M_inc_2 (Nat.le_of_ble_eq_true rfl) ?_
  refine P_if_eq 19 d_M_inc_5 (by decide) (fun c5 => ?_) (fun c5 => ?_)
  · refine P_iconst (v := (-1)) d_M_inc_19 (by decide) ?_
    exact P_iret d_M_inc_20 (by simp [*]) (by simp [*])
  · refine P_aload_n d_M_inc_8 rfl ?_
    refine P_iconst (v := 2) d_M_inc_9 (by decide) ?_
    refine P_iconst (v := 1) d_M_inc_10 (by decide) ?_
    refine P_iload_n d_M_inc_11 rfl ?_
    refine P_iconst (v := 0) d_M_inc_12 (by decide) ?_
    refine cl_M_append (c_M_append2 _ _ _ _ _ n hn h) d_M_inc_13 (Nat.le_of_ble_eq_true rfl) ?_
    refine P_goto 20 d_M_inc_16 (by decide) ?_
    exact P_iret d_M_inc_20 (by simp [*]) (by simp [*])
set_option maxHeartbeats 400000 in
set_option maxRecDepth 10000 in
theorem c_M_dec (σ μ : SG) (r : Int32) (n : Nat) (hn : n ≤ 64) (h : μ 16 2 = nI n) : CF k_M_dec [.inr 16, .inl r] (σ, μ) (some (if m_isRegister r = 0 then -1 else maR μ n 2)) (σ, if m_isRegister r = 0 then μ else maS μ n 2 (ma2 μ n 2 r)) := by
  refine CF.of rfl rfl (Nat.le_of_ble_eq_true rfl) (L := [some (.inr 16), some (.inl r)]) rfl ?_
  refine P_aload_n d_M_dec_0 rfl ?_
  refine P_iload_n d_M_dec_1 rfl ?_
  refine cl_M_isRegister (c_M_isRegister _ _ _) d_M_dec_2 (Nat.le_of_ble_eq_true rfl) ?_
  refine P_if_eq 19 d_M_dec_5 (by decide) (fun c5 => ?_) (fun c5 => ?_)
  · refine P_iconst (v := (-1)) d_M_dec_19 (by decide) ?_
    exact P_iret d_M_dec_20 (by simp [*]) (by simp [*])
  · refine P_aload_n d_M_dec_8 rfl ?_
    refine P_iconst (v := 2) d_M_dec_9 (by decide) ?_
    refine P_iconst (v := 2) d_M_dec_10 (by decide) ?_
    refine P_iload_n d_M_dec_11 rfl ?_
    refine P_iconst (v := 0) d_M_dec_12 (by decide) ?_
    refine cl_M_append (c_M_append2 _ _ _ _ _ n hn h) d_M_dec_13 (Nat.le_of_ble_eq_true rfl) ?_
    refine P_goto 20 d_M_dec_16 (by decide) ?_
    exact P_iret d_M_dec_20 (by simp [*]) (by simp [*])
set_option maxHeartbeats 400000 in
set_option maxRecDepth 10000 in
theorem c_M_where (σ μ : SG) (r : Int32) (n : Nat) (hn : n ≤ 64) (h : μ 16 2 = nI n) : CF k_M_where [.inr 16, .inl r] (σ, μ) (some (if m_isRegister r = 0 then -1 else maR μ n 2)) (σ, if m_isRegister r = 0 then μ else maS μ n 2 (ma2 μ n 8 r)) := by
  refine CF.of rfl rfl (Nat.le_of_ble_eq_true rfl) (L := [some (.inr 16), some (.inl r)]) rfl ?_
  refine P_aload_n d_M_where_0 rfl ?_
  refine P_iload_n d_M_where_1 rfl ?_
  refine cl_M_isRegister (c_M_isRegister _ _ _) d_M_where_2 (Nat.le_of_ble_eq_true rfl) ?_
  refine P_if_eq 20 d_M_where_5 (by decide) (fun c5 => ?_) (fun c5 => ?_)
  · refine P_iconst (v := (-1)) d_M_where_20 (by decide) ?_
    exact P_iret d_M_where_21 (by simp [*]) (by simp [*])
  · refine P_aload_n d_M_where_8 rfl ?_
    refine P_iconst (v := 2) d_M_where_9 (by decide) ?_
    refine P_bipush (v := 8) d_M_where_10 (by decide) ?_
    refine P_iload_n d_M_where_12 rfl ?_
    refine P_iconst (v := 0) d_M_where_13 (by decide) ?_
    refine cl_M_append (c_M_append2 _ _ _ _ _ n hn h) d_M_where_14 (Nat.le_of_ble_eq_true rfl) ?_
    refine P_goto 21 d_M_where_17 (by decide) ?_
    exact P_iret d_M_where_21 (by simp [*]) (by simp [*])
set_option maxHeartbeats 400000 in
set_option maxRecDepth 10000 in
theorem c_M_move (σ μ : SG) (r t : Int32) (n : Nat) (hn : n ≤ 64) (h : μ 16 2 = nI n) : CF k_M_move [.inr 16, .inl r, .inl t] (σ, μ) (some (if m_isRegister r = 0 then -1 else if m_isRegister t = 0 then -1 else maR μ n 2)) (σ, if m_isRegister r = 0 then μ else if m_isRegister t = 0 then μ else maS μ n 2 (ma2 μ n 3 (r + 4 * t))) := by
  refine CF.of rfl rfl (Nat.le_of_ble_eq_true rfl) (L := [some (.inr 16), some (.inl r), some (.inl t)]) rfl ?_
  refine P_aload_n d_M_move_0 rfl ?_
  refine P_iload_n d_M_move_1 rfl ?_
  refine cl_M_isRegister (c_M_isRegister _ _ _) d_M_move_2 (Nat.le_of_ble_eq_true rfl) ?_
  refine P_if_eq 31 d_M_move_5 (by decide) (fun c5 => ?_) (fun c5 => ?_)
  · refine P_iconst (v := (-1)) d_M_move_31 (by decide) ?_
    exact P_iret d_M_move_32 (by simp [*]) (by simp [*])
  · refine P_aload_n d_M_move_8 rfl ?_
    refine P_iload_n d_M_move_9 rfl ?_
    refine cl_M_isRegister (c_M_isRegister _ _ _) d_M_move_10 (Nat.le_of_ble_eq_true rfl) ?_
    refine P_if_eq 31 d_M_move_13 (by decide) (fun c13 => ?_) (fun c13 => ?_)
    · refine P_iconst (v := (-1)) d_M_move_31 (by decide) ?_
      exact P_iret d_M_move_32 (by simp [*]) (by simp [*])
    · refine P_aload_n d_M_move_16 rfl ?_
      refine P_iconst (v := 2) d_M_move_17 (by decide) ?_
      refine P_iconst (v := 3) d_M_move_18 (by decide) ?_
      refine P_iload_n d_M_move_19 rfl ?_
      refine P_iconst (v := 4) d_M_move_20 (by decide) ?_
      refine P_iload_n d_M_move_21 rfl ?_
      refine P_imul d_M_move_22 ?_
      refine P_iadd d_M_move_23 ?_
      refine P_iconst (v := 0) d_M_move_24 (by decide) ?_
      refine cl_M_append (c_M_append2 _ _ _ _ _ n hn h) d_M_move_25 (Nat.le_of_ble_eq_true rfl) ?_
      refine P_goto 32 d_M_move_28 (by decide) ?_
      exact P_iret d_M_move_32 (by simp [*]) (by simp [*])
set_option maxHeartbeats 400000 in
set_option maxRecDepth 10000 in
theorem c_M_jump (σ μ : SG) (t : Int32) (n : Nat) (hn : n ≤ 64) (h : μ 16 2 = nI n) : CF k_M_jump [.inr 16, .inl t] (σ, μ) (some (if m_isTarget t = 0 then -1 else maR μ n 2)) (σ, if m_isTarget t = 0 then μ else maS μ n 2 (ma2 μ n 4 t)) := by
  refine CF.of rfl rfl (Nat.le_of_ble_eq_true rfl) (L := [some (.inr 16), some (.inl t)]) rfl ?_
  refine P_aload_n d_M_jump_0 rfl ?_
  refine P_iload_n d_M_jump_1 rfl ?_
  refine cl_M_isTarget (c_M_isTarget _ _ _) d_M_jump_2 (Nat.le_of_ble_eq_true rfl) ?_
  refine P_if_eq 19 d_M_jump_5 (by decide) (fun c5 => ?_) (fun c5 => ?_)
  · refine P_iconst (v := (-1)) d_M_jump_19 (by decide) ?_
    exact P_iret d_M_jump_20 (by simp [*]) (by simp [*])
  · refine P_aload_n d_M_jump_8 rfl ?_
    refine P_iconst (v := 2) d_M_jump_9 (by decide) ?_
    refine P_iconst (v := 4) d_M_jump_10 (by decide) ?_
    refine P_iload_n d_M_jump_11 rfl ?_
    refine P_iconst (v := 0) d_M_jump_12 (by decide) ?_
    refine cl_M_append (c_M_append2 _ _ _ _ _ n hn h) d_M_jump_13 (Nat.le_of_ble_eq_true rfl) ?_
    refine P_goto 20 d_M_jump_16 (by decide) ?_
    exact P_iret d_M_jump_20 (by simp [*]) (by simp [*])
set_option maxHeartbeats 400000 in
set_option maxRecDepth 10000 in
theorem c_M_call (σ μ : SG) (t : Int32) (n : Nat) (hn : n ≤ 64) (h : μ 16 2 = nI n) : CF k_M_call [.inr 16, .inl t] (σ, μ) (some (if m_isTarget t = 0 then -1 else maR μ n 2)) (σ, if m_isTarget t = 0 then μ else maS μ n 2 (ma2 μ n 6 t)) := by
  refine CF.of rfl rfl (Nat.le_of_ble_eq_true rfl) (L := [some (.inr 16), some (.inl t)]) rfl ?_
  refine P_aload_n d_M_call_0 rfl ?_
  refine P_iload_n d_M_call_1 rfl ?_
  refine cl_M_isTarget (c_M_isTarget _ _ _) d_M_call_2 (Nat.le_of_ble_eq_true rfl) ?_
  refine P_if_eq 20 d_M_call_5 (by decide) (fun c5 => ?_) (fun c5 => ?_)
  · refine P_iconst (v := (-1)) d_M_call_20 (by decide) ?_
    exact P_iret d_M_call_21 (by simp [*]) (by simp [*])
  · refine P_aload_n d_M_call_8 rfl ?_
    refine P_iconst (v := 2) d_M_call_9 (by decide) ?_
    refine P_bipush (v := 6) d_M_call_10 (by decide) ?_
    refine P_iload_n d_M_call_12 rfl ?_
    refine P_iconst (v := 0) d_M_call_13 (by decide) ?_
    refine cl_M_append (c_M_append2 _ _ _ _ _ n hn h) d_M_call_14 (Nat.le_of_ble_eq_true rfl) ?_
    refine P_goto 21 d_M_call_17 (by decide) ?_
    exact P_iret d_M_call_21 (by simp [*]) (by simp [*])
set_option maxHeartbeats 400000 in
set_option maxRecDepth 10000 in
theorem c_M_branch (σ μ : SG) (r t : Int32) (n : Nat) (hn : n ≤ 64) (h : μ 16 2 = nI n) : CF k_M_branch [.inr 16, .inl r, .inl t] (σ, μ) (some (if m_isRegister r = 0 then -1 else if m_isTarget t = 0 then -1 else maR μ n 3)) (σ, if m_isRegister r = 0 then μ else if m_isTarget t = 0 then μ else maS μ n 3 (ma3 μ n 5 r t)) := by
  refine CF.of rfl rfl (Nat.le_of_ble_eq_true rfl) (L := [some (.inr 16), some (.inl r), some (.inl t)]) rfl ?_
  refine P_aload_n d_M_branch_0 rfl ?_
  refine P_iload_n d_M_branch_1 rfl ?_
  refine cl_M_isRegister (c_M_isRegister _ _ _) d_M_branch_2 (Nat.le_of_ble_eq_true rfl) ?_
  refine P_if_eq 27 d_M_branch_5 (by decide) (fun c5 => ?_) (fun c5 => ?_)
  · refine P_iconst (v := (-1)) d_M_branch_27 (by decide) ?_
    exact P_iret d_M_branch_28 (by simp [*]) (by simp [*])
  · refine P_aload_n d_M_branch_8 rfl ?_
    refine P_iload_n d_M_branch_9 rfl ?_
    refine cl_M_isTarget (c_M_isTarget _ _ _) d_M_branch_10 (Nat.le_of_ble_eq_true rfl) ?_
    refine P_if_eq 27 d_M_branch_13 (by decide) (fun c13 => ?_) (fun c13 => ?_)
    · refine P_iconst (v := (-1)) d_M_branch_27 (by decide) ?_
      exact P_iret d_M_branch_28 (by simp [*]) (by simp [*])
    · refine P_aload_n d_M_branch_16 rfl ?_
      refine P_iconst (v := 3) d_M_branch_17 (by decide) ?_
      refine P_iconst (v := 5) d_M_branch_18 (by decide) ?_
      refine P_iload_n d_M_branch_19 rfl ?_
      refine P_iload_n d_M_branch_20 rfl ?_
      refine cl_M_append (c_M_append3 _ _ _ _ _ n hn h) d_M_branch_21 (Nat.le_of_ble_eq_true rfl) ?_
      refine P_goto 28 d_M_branch_24 (by decide) ?_
      exact P_iret d_M_branch_28 (by simp [*]) (by simp [*])
set_option maxHeartbeats 400000 in
set_option maxRecDepth 10000 in
theorem c_M_clear (σ μ : SG) : CF k_M_clear [.inr 16] (σ, μ) (some (if cntM μ 64 ≤ 0 then μ 16 2 else -3)) (σ, if cntM μ 64 ≤ 0 then ss μ 16 2 0 else μ) := by
  refine CF.of rfl rfl (Nat.le_of_ble_eq_true rfl) (L := [some (.inr 16), none]) rfl ?_
  refine P_aload_n d_M_clear_0 rfl ?_
  refine cl_M_hooks (c_M_hooks _ _) d_M_clear_1 (Nat.le_of_ble_eq_true rfl) ?_
  refine P_if_le 10 d_M_clear_4 (by decide) (fun c4 => ?_) (fun c4 => ?_)
  · refine P_aload_n d_M_clear_10 rfl ?_
    refine g_M_length d_M_clear_11 ?_
    refine P_istore_n (L' := [some (.inr 16), some (.inl _)]) d_M_clear_14 (by decide) rfl ?_
    refine P_aload_n d_M_clear_15 rfl ?_
    refine P_iconst (v := 0) d_M_clear_16 (by decide) ?_
    refine s_M_length d_M_clear_17 ?_
    refine P_iload_n d_M_clear_20 rfl ?_
    exact P_iret d_M_clear_21 (by simp [*]) (by simp [*])
  · refine P_bipush (v := (-3)) d_M_clear_7 (by decide) ?_
    exact P_iret d_M_clear_9 (by simp [*]) (by simp [*])
theorem isReg_in {r : Int32} (h : ¬ m_isRegister r = 0) : vp_in r 4 := by
  unfold m_isRegister at h
  split at h
  · exact absurd rfl h
  · split at h
    · exact absurd rfl h
    · exact vp_of 4 rfl (by assumption) (by grind)
set_option maxHeartbeats 400000 in
set_option maxRecDepth 10000 in
theorem c_M_setRegister (σ μ : SG) (r v : Int32) : CF k_M_setRegister [.inr 16, .inl r, .inl v] (σ, μ) (some (if m_isRegister r = 0 then -1 else 0)) (σ, if m_isRegister r = 0 then μ else ss μ 20 r.toNatClampNeg v) := by
  refine CF.of rfl rfl (Nat.le_of_ble_eq_true rfl) (L := [some (.inr 16), some (.inl r), some (.inl v)]) rfl ?_
  refine P_aload_n d_M_setRegister_0 rfl ?_
  refine P_iload_n d_M_setRegister_1 rfl ?_
  refine cl_M_isRegister (c_M_isRegister _ _ _) d_M_setRegister_2 (Nat.le_of_ble_eq_true rfl) ?_
  refine P_if_ne 10 d_M_setRegister_5 (by decide) (fun c5 => ?_) (fun c5 => ?_)
  · refine P_aload_n d_M_setRegister_10 rfl ?_
    refine g_M_registers d_M_setRegister_11 ?_
    refine P_iload_n d_M_setRegister_14 rfl ?_
    refine P_iload_n d_M_setRegister_15 rfl ?_
    refine Q_iast ar_20 (isReg_in c5) d_M_setRegister_16 ?_
    refine P_iconst (v := 0) d_M_setRegister_17 (by decide) ?_
    exact P_iret d_M_setRegister_18 (by simp [*]) (by simp [*])
  · refine P_iconst (v := (-1)) d_M_setRegister_8 (by decide) ?_
    exact P_iret d_M_setRegister_9 (by simp [*]) (by simp [*])
set_option maxHeartbeats 400000 in
set_option maxRecDepth 10000 in
theorem c_M_register (σ μ : SG) (r : Int32) : CF k_M_register [.inr 16, .inl r] (σ, μ) (some (if m_isRegister r = 0 then 0 else μ 20 r.toNatClampNeg)) (σ, μ) := by
  refine CF.of rfl rfl (Nat.le_of_ble_eq_true rfl) (L := [some (.inr 16), some (.inl r)]) rfl ?_
  refine P_aload_n d_M_register_0 rfl ?_
  refine P_iload_n d_M_register_1 rfl ?_
  refine cl_M_isRegister (c_M_isRegister _ _ _) d_M_register_2 (Nat.le_of_ble_eq_true rfl) ?_
  refine P_if_eq 17 d_M_register_5 (by decide) (fun c5 => ?_) (fun c5 => ?_)
  · refine P_iconst (v := 0) d_M_register_17 (by decide) ?_
    exact P_iret d_M_register_18 (by simp [*]) (by rfl)
  · refine P_aload_n d_M_register_8 rfl ?_
    refine g_M_registers d_M_register_9 ?_
    refine P_iload_n d_M_register_12 rfl ?_
    refine Q_iald ar_20 (isReg_in c5) d_M_register_13 ?_
    refine P_goto 18 d_M_register_14 (by decide) ?_
    exact P_iret d_M_register_18 (by simp [*]) (by rfl)
def Gap (P S : Nat → Int32) (N : Nat) : Prop := ∀ x, x < N → ¬ S x = 0 → ∀ j, 0 < j → j < ln (P x) → S (x + j) = 0
set_option maxHeartbeats 400000 in
set_option maxRecDepth 10000 in
theorem lp_M_nextOf (σ μ : SG) (x k N : Nat) (v : Int32) (hN : N ≤ 64) (hL : μ 16 2 = nI N) (hxk : x + k ≤ N) (hz : ∀ j, 0 < j → j < k → μ 18 (x + j) = 0) (he : x + k < N → ¬ μ 18 (x + k) = 0) : ∀ (n j : Nat), 1 ≤ j → j + n = k → PW k_M_nextOf (some (nI (x + k))) (σ, μ) 4 [some (.inr 16), some (.inl v), some (.inl (nI (x + j)))] [] (σ, μ) := by
  intro n
  induction n with
  | zero =>
    intro j hj1 hj
    rw [show j = k by omega]
    refine P_iload_n d_M_nextOf_4 rfl ?_
    refine P_aload_n d_M_nextOf_5 rfl ?_
    refine g_M_length d_M_nextOf_6 ?_
    refine P_top (y := nI N) (hL) ?_
    refine P_icmp_ge 27 d_M_nextOf_9 (by decide) (fun c9 => ?_) (fun c9 => ?_)
    · refine P_iload_n d_M_nextOf_27 rfl ?_
      exact P_iret d_M_nextOf_28 (by rfl) (by rfl)
    · have h9 : x + k < N := nI_3le (by omega) N (by omega) c9
      refine P_aload_n d_M_nextOf_12 rfl ?_
      refine g_M_begins d_M_nextOf_13 ?_
      refine P_iload_n d_M_nextOf_16 rfl ?_
      refine Q_zald ar_18 (vp_in_nI (by omega) (by decide)) d_M_nextOf_17 ?_
      refine P_top (y := μ 18 (x + k)) (by rw [nI_clamp (by omega)]) ?_
      refine P_if_ne 27 d_M_nextOf_18 (by decide) (fun c18 => ?_) (fun c18 => False.elim (he h9 c18))
      refine P_iload_n d_M_nextOf_27 rfl ?_
      exact P_iret d_M_nextOf_28 (by rfl) (by rfl)
  | succ n ih =>
    intro j hj1 hj
    refine P_iload_n d_M_nextOf_4 rfl ?_
    refine P_aload_n d_M_nextOf_5 rfl ?_
    refine g_M_length d_M_nextOf_6 ?_
    refine P_top (y := nI N) (hL) ?_
    refine P_icmp_ge 27 d_M_nextOf_9 (by decide) (fun c9 => False.elim (nI_ge (show x + j < N by omega) (by omega) c9)) (fun c9 => ?_)
    refine P_aload_n d_M_nextOf_12 rfl ?_
    refine g_M_begins d_M_nextOf_13 ?_
    refine P_iload_n d_M_nextOf_16 rfl ?_
    refine Q_zald ar_18 (vp_in_nI (by omega) (by decide)) d_M_nextOf_17 ?_
    refine P_top (y := μ 18 (x + j)) (by rw [nI_clamp (by omega)]) ?_
    refine P_if_ne 27 d_M_nextOf_18 (by decide) (fun c18 => False.elim (c18 (hz j (by omega) (by omega)))) (fun c18 => ?_)
    refine P_iinc (v := nI (x + (j + 1))) (L' := [some (.inr 16), some (.inl _), some (.inl _)]) d_M_nextOf_21 rfl (ofInt1 (x + j)) (by decide) rfl ?_
    refine P_goto 4 d_M_nextOf_24 (by decide) ?_
    exact ih (j + 1) (by omega) (by omega)
set_option maxHeartbeats 400000 in
set_option maxRecDepth 10000 in
theorem c_M_nextOf (σ μ : SG) (x N : Nat) (hN : N ≤ 64) (hL : μ 16 2 = nI N) (hC : Chn (μ 17) (μ 18) N) (hG : Gap (μ 17) (μ 18) N) (hx : x < N) (hs : ¬ μ 18 x = 0) : CF k_M_nextOf [.inr 16, .inl (nI x)] (σ, μ) (some (nI (x + ln (μ 17 x)))) (σ, μ) := by
  refine CF.of rfl rfl (Nat.le_of_ble_eq_true rfl) (L := [some (.inr 16), some (.inl (nI x)), none]) rfl ?_
  refine P_iload_n d_M_nextOf_0 rfl ?_
  refine P_iconst (v := 1) d_M_nextOf_1 (by decide) ?_
  refine P_iadd d_M_nextOf_2 ?_
  refine P_top (y := nI (x + 1)) (nI_1 x) ?_
  refine P_istore_n (L' := [some (.inr 16), some (.inl _), some (.inl _)]) d_M_nextOf_3 (by decide) rfl ?_
  exact lp_M_nextOf σ μ x (ln (μ 17 x)) N _ hN hL (hC x hx hs).1 (hG x hx hs) (hC x hx hs).2 (ln (μ 17 x) - 1) 1 (Nat.le_refl 1) (by have := ln_in (μ 17 x); omega)
theorem mstarts_nI {μ : SG} {a N : Nat} (ha : a < 1000) (hN : N ≤ 64) (hL : μ 16 2 = nI N) : m_starts μ (nI a) = if a < N ∧ ¬ μ 18 a = 0 then 1 else 0 := by
  unfold m_starts
  rw [if_neg (nI_pos (by omega)), hL, nI_clamp (by omega)]
  by_cases h : a < N
  · rw [if_neg (nI_ge h (by omega))]
    by_cases h2 : μ 18 a = 0
    · rw [if_pos h2, if_neg (fun q => q.2 h2)]
    · rw [if_neg h2, if_pos ⟨h, h2⟩]
  · rw [if_pos (nI_le (by omega) (by omega)), if_neg (fun q => h q.1)]
/-- the head's length that the reference finds -/
def mhd (P S : Nat → Int32) (N a : Nat) : Nat := if a < N ∧ ¬ S a = 0 then (if a + 3 ≤ N then hl P a else 0) else 0
theorem mhd_le (P S : Nat → Int32) (N a : Nat) : mhd P S N a ≤ 5 := by
  have := hl_in P a
  unfold mhd
  split
  · split <;> omega
  · omega
set_option maxHeartbeats 400000 in
set_option maxRecDepth 10000 in
theorem c_M_headOf (σ μ : SG) (a N : Nat) (hN : N ≤ 64) (hL : μ 16 2 = nI N) (hC : Chn (μ 17) (μ 18) N) (hG : Gap (μ 17) (μ 18) N) (ha : a < 64) : CF k_M_headOf [.inr 16, .inl (nI a)] (σ, μ) (some (nI (mhd (μ 17) (μ 18) N a))) (σ, μ) := by
  have hL2 : μ 16 2 ≤ 64 := by rw [hL]; exact nI_le hN (by decide)
  have i1 := ln_in (μ 17 a)
  have i2 := ln_in (μ 17 (a + ln (μ 17 a)))
  have i3 := ln_in (μ 17 (a + (ln (μ 17 a) + ln (μ 17 (a + ln (μ 17 a))))))
  refine CF.of rfl rfl (Nat.le_of_ble_eq_true rfl) (L := [some (.inr 16), some (.inl (nI a)), none, none]) rfl ?_
  refine P_aload_n d_M_headOf_0 rfl ?_
  refine P_iload_n d_M_headOf_1 rfl ?_
  refine cl_M_starts (c_M_starts _ _ _ hL2) d_M_headOf_2 (Nat.le_of_ble_eq_true rfl) ?_
  refine P_top (y := if a < N ∧ ¬ μ 18 a = 0 then 1 else 0) (mstarts_nI (by omega) hN hL) ?_
  refine P_if_ne 10 d_M_headOf_5 (by decide) (fun c5 => ?_) (fun c5 => ?_)
  · have hst : a < N ∧ ¬ μ 18 a = 0 := Decidable.byContradiction (fun q => by rw [if_neg q] at c5; exact c5 rfl)
    have hd1 := hC a hst.1 hst.2
    refine P_iload_n d_M_headOf_10 rfl ?_
    refine P_istore_n (L' := [some (.inr 16), some (.inl _), some (.inl _), none]) d_M_headOf_11 (by decide) rfl ?_
    refine P_iconst (v := 0) d_M_headOf_12 (by decide) ?_
    refine P_istore_n (L' := [some (.inr 16), some (.inl _), some (.inl _), some (.inl 0)]) d_M_headOf_13 (by decide) rfl ?_
    refine P_iload_n d_M_headOf_14 rfl ?_
    refine P_iconst (v := 3) d_M_headOf_15 (by decide) ?_
    refine P_icmp_ge 48 d_M_headOf_16 (by decide) (fun hc => absurd hc (by decide)) (fun _ => ?_)
    refine P_iload_n d_M_headOf_19 rfl ?_
    refine P_iload_n d_M_headOf_20 rfl ?_
    refine P_iconst (v := 3) d_M_headOf_21 (by decide) ?_
    refine P_iadd d_M_headOf_22 ?_
    refine P_top (y := nI (a + 3)) (nI_add a 3) ?_
    refine P_icmp_ge 48 d_M_headOf_23 (by decide) (fun c23 => False.elim (nI_ge (by omega) (by omega) c23)) (fun c23 => ?_)
    refine P_iload_n d_M_headOf_26 rfl ?_
    refine P_aload_n d_M_headOf_27 rfl ?_
    refine g_M_length d_M_headOf_28 ?_
    refine P_top (y := nI N) (hL) ?_
    refine P_icmp_lt 36 d_M_headOf_31 (by decide) (fun c31 => ?_) (fun c31 => False.elim (c31 (nI_lt hst.1 (by omega))))
    refine P_aload_n d_M_headOf_36 rfl ?_
    refine P_iload_n d_M_headOf_37 rfl ?_
    refine cl_M_nextOf (c_M_nextOf _ _ a N hN hL hC hG hst.1 hst.2) d_M_headOf_38 (Nat.le_of_ble_eq_true rfl) ?_
    refine P_istore_n (L' := [some (.inr 16), some (.inl _), some (.inl _), some (.inl 0)]) d_M_headOf_41 (by decide) rfl ?_
    refine P_iinc (v := 1) (L' := [some (.inr 16), some (.inl _), some (.inl _), some (.inl 1)]) d_M_headOf_42 rfl (by decide) (by decide) rfl ?_
    refine P_goto 14 d_M_headOf_45 (by decide) ?_
    refine P_iload_n d_M_headOf_14 rfl ?_
    refine P_iconst (v := 3) d_M_headOf_15 (by decide) ?_
    refine P_icmp_ge 48 d_M_headOf_16 (by decide) (fun hc => absurd hc (by decide)) (fun _ => ?_)
    refine P_iload_n d_M_headOf_19 rfl ?_
    refine P_iload_n d_M_headOf_20 rfl ?_
    refine P_iconst (v := 3) d_M_headOf_21 (by decide) ?_
    refine P_iadd d_M_headOf_22 ?_
    refine P_top (y := nI (a + 3)) (nI_add a 3) ?_
    refine P_icmp_ge 48 d_M_headOf_23 (by decide) (fun c23_2 => ?_) (fun c23_2 => ?_)
    · have e1 : 3 ≤ ln (μ 17 a) := by
        have := (nI_leI (by omega) (by omega)).mp c23_2
        omega
      refine P_iload_n d_M_headOf_48 rfl ?_
      refine P_iload_n d_M_headOf_49 rfl ?_
      refine P_isub d_M_headOf_50 ?_
      refine P_top (y := nI (ln (μ 17 a))) (by rw [pk_sub (by omega)]; congr 1; omega) ?_
      exact P_iret d_M_headOf_51 (by first | (unfold mhd; rw [if_neg hns]; rfl) | (unfold mhd; rw [if_pos hst, if_neg (by omega)]; rfl) | (unfold mhd hl; rw [if_pos hst, if_pos (by omega), if_pos e1]) | (unfold mhd hl; rw [if_pos hst, if_pos (by omega), if_neg (by omega), if_pos e2]) | (unfold mhd hl; rw [if_pos hst, if_pos (by omega), if_neg (by omega), if_neg (by omega)])) (by rfl)
    · have e1 : ln (μ 17 a) < 3 := by
        have := nI_3le (by omega) _ (by omega) c23_2
        omega
      refine P_iload_n d_M_headOf_26 rfl ?_
      refine P_aload_n d_M_headOf_27 rfl ?_
      refine g_M_length d_M_headOf_28 ?_
      refine P_top (y := nI N) (hL) ?_
      refine P_icmp_lt 36 d_M_headOf_31 (by decide) (fun c31_2 => ?_) (fun c31_2 => ?_)
      · have k1 : a + ln (μ 17 a) < N := (nI_ltI (by omega) (by omega)).mp c31_2
        have hd2 := hC (a + ln (μ 17 a)) k1 (hd1.2 k1)
        rw [Nat.add_assoc] at hd2
        refine P_aload_n d_M_headOf_36 rfl ?_
        refine P_iload_n d_M_headOf_37 rfl ?_
        refine cl_M_nextOf (c_M_nextOf _ _ (a + ln (μ 17 a)) N hN hL hC hG k1 (hd1.2 k1)) d_M_headOf_38 (Nat.le_of_ble_eq_true rfl) ?_
        refine P_istore_n (L' := [some (.inr 16), some (.inl _), some (.inl _), some (.inl 1)]) d_M_headOf_41 (by decide) rfl ?_
        refine PW_L (L2 := [some (.inr 16), some (.inl (nI a)), some (.inl (nI (a + (ln (μ 17 a) + ln (μ 17 (a + ln (μ 17 a))))))), _]) (by rw [Nat.add_assoc]) ?_
        refine P_iinc (v := 2) (L' := [some (.inr 16), some (.inl _), some (.inl _), some (.inl 2)]) d_M_headOf_42 rfl (by decide) (by decide) rfl ?_
        refine P_goto 14 d_M_headOf_45 (by decide) ?_
        refine P_iload_n d_M_headOf_14 rfl ?_
        refine P_iconst (v := 3) d_M_headOf_15 (by decide) ?_
        refine P_icmp_ge 48 d_M_headOf_16 (by decide) (fun hc => absurd hc (by decide)) (fun _ => ?_)
        refine P_iload_n d_M_headOf_19 rfl ?_
        refine P_iload_n d_M_headOf_20 rfl ?_
        refine P_iconst (v := 3) d_M_headOf_21 (by decide) ?_
        refine P_iadd d_M_headOf_22 ?_
        refine P_top (y := nI (a + 3)) (nI_add a 3) ?_
        refine P_icmp_ge 48 d_M_headOf_23 (by decide) (fun c23_3 => ?_) (fun c23_3 => ?_)
        · have e2 : 3 ≤ ln (μ 17 a) + ln (μ 17 (a + ln (μ 17 a))) := by
            have := (nI_leI (by omega) (by omega)).mp c23_3
            omega
          refine P_iload_n d_M_headOf_48 rfl ?_
          refine P_iload_n d_M_headOf_49 rfl ?_
          refine P_isub d_M_headOf_50 ?_
          refine P_top (y := nI (ln (μ 17 a) + ln (μ 17 (a + ln (μ 17 a))))) (by rw [pk_sub (by omega)]; congr 1; omega) ?_
          exact P_iret d_M_headOf_51 (by first | (unfold mhd; rw [if_neg hns]; rfl) | (unfold mhd; rw [if_pos hst, if_neg (by omega)]; rfl) | (unfold mhd hl; rw [if_pos hst, if_pos (by omega), if_pos e1]) | (unfold mhd hl; rw [if_pos hst, if_pos (by omega), if_neg (by omega), if_pos e2]) | (unfold mhd hl; rw [if_pos hst, if_pos (by omega), if_neg (by omega), if_neg (by omega)])) (by rfl)
        · have e2 : ln (μ 17 a) + ln (μ 17 (a + ln (μ 17 a))) < 3 := by
            have := nI_3le (by omega) _ (by omega) c23_3
            omega
          refine P_iload_n d_M_headOf_26 rfl ?_
          refine P_aload_n d_M_headOf_27 rfl ?_
          refine g_M_length d_M_headOf_28 ?_
          refine P_top (y := nI N) (hL) ?_
          refine P_icmp_lt 36 d_M_headOf_31 (by decide) (fun c31_3 => ?_) (fun c31_3 => ?_)
          · have k2 : a + (ln (μ 17 a) + ln (μ 17 (a + ln (μ 17 a)))) < N := (nI_ltI (by omega) (by omega)).mp c31_3
            have hd3 := hC (a + (ln (μ 17 a) + ln (μ 17 (a + ln (μ 17 a))))) k2 (hd2.2 k2)
            refine P_aload_n d_M_headOf_36 rfl ?_
            refine P_iload_n d_M_headOf_37 rfl ?_
            refine cl_M_nextOf (c_M_nextOf _ _ (a + (ln (μ 17 a) + ln (μ 17 (a + ln (μ 17 a))))) N hN hL hC hG k2 (hd2.2 k2)) d_M_headOf_38 (Nat.le_of_ble_eq_true rfl) ?_
            refine P_istore_n (L' := [some (.inr 16), some (.inl _), some (.inl _), some (.inl 2)]) d_M_headOf_41 (by decide) rfl ?_
            refine PW_L (L2 := [some (.inr 16), some (.inl (nI a)), some (.inl (nI (a + (ln (μ 17 a) + ln (μ 17 (a + ln (μ 17 a)))) + ln (μ 17 (a + (ln (μ 17 a) + ln (μ 17 (a + ln (μ 17 a))))))))), _]) rfl ?_
            refine P_iinc (v := 3) (L' := [some (.inr 16), some (.inl _), some (.inl _), some (.inl 3)]) d_M_headOf_42 rfl (by decide) (by decide) rfl ?_
            refine P_goto 14 d_M_headOf_45 (by decide) ?_
            refine P_iload_n d_M_headOf_14 rfl ?_
            refine P_iconst (v := 3) d_M_headOf_15 (by decide) ?_
            refine P_icmp_ge 48 d_M_headOf_16 (by decide) (fun _ => ?_) (fun hc => absurd hc (by decide))
            refine P_iload_n d_M_headOf_48 rfl ?_
            refine P_iload_n d_M_headOf_49 rfl ?_
            refine P_isub d_M_headOf_50 ?_
            refine P_top (y := nI (ln (μ 17 a) + ln (μ 17 (a + ln (μ 17 a))) + ln (μ 17 (a + (ln (μ 17 a) + ln (μ 17 (a + ln (μ 17 a)))))))) (by rw [pk_sub (by omega)]; congr 1; omega) ?_
            exact P_iret d_M_headOf_51 (by first | (unfold mhd; rw [if_neg hns]; rfl) | (unfold mhd; rw [if_pos hst, if_neg (by omega)]; rfl) | (unfold mhd hl; rw [if_pos hst, if_pos (by omega), if_pos e1]) | (unfold mhd hl; rw [if_pos hst, if_pos (by omega), if_neg (by omega), if_pos e2]) | (unfold mhd hl; rw [if_pos hst, if_pos (by omega), if_neg (by omega), if_neg (by omega)])) (by rfl)
          · have k2 : N ≤ a + (ln (μ 17 a) + ln (μ 17 (a + ln (μ 17 a)))) := Nat.not_lt.mp (fun q => c31_3 (nI_lt q (by omega)))
            refine P_iconst (v := 0) d_M_headOf_34 (by decide) ?_
            exact P_iret d_M_headOf_35 (by first | (unfold mhd; rw [if_neg hns]; rfl) | (unfold mhd; rw [if_pos hst, if_neg (by omega)]; rfl) | (unfold mhd hl; rw [if_pos hst, if_pos (by omega), if_pos e1]) | (unfold mhd hl; rw [if_pos hst, if_pos (by omega), if_neg (by omega), if_pos e2]) | (unfold mhd hl; rw [if_pos hst, if_pos (by omega), if_neg (by omega), if_neg (by omega)])) (by rfl)
      · have k1 : N ≤ a + ln (μ 17 a) := Nat.not_lt.mp (fun q => c31_2 (nI_lt q (by omega)))
        refine P_iconst (v := 0) d_M_headOf_34 (by decide) ?_
        exact P_iret d_M_headOf_35 (by first | (unfold mhd; rw [if_neg hns]; rfl) | (unfold mhd; rw [if_pos hst, if_neg (by omega)]; rfl) | (unfold mhd hl; rw [if_pos hst, if_pos (by omega), if_pos e1]) | (unfold mhd hl; rw [if_pos hst, if_pos (by omega), if_neg (by omega), if_pos e2]) | (unfold mhd hl; rw [if_pos hst, if_pos (by omega), if_neg (by omega), if_neg (by omega)])) (by rfl)
  · have hns : ¬ (a < N ∧ ¬ μ 18 a = 0) := fun q => by rw [if_pos q] at c5; exact absurd c5 (by decide)
    refine P_iconst (v := 0) d_M_headOf_8 (by decide) ?_
    exact P_iret d_M_headOf_9 (by first | (unfold mhd; rw [if_neg hns]; rfl) | (unfold mhd; rw [if_pos hst, if_neg (by omega)]; rfl) | (unfold mhd hl; rw [if_pos hst, if_pos (by omega), if_pos e1]) | (unfold mhd hl; rw [if_pos hst, if_pos (by omega), if_neg (by omega), if_pos e2]) | (unfold mhd hl; rw [if_pos hst, if_pos (by omega), if_neg (by omega), if_neg (by omega)])) (by rfl)
set_option maxHeartbeats 400000 in
set_option maxRecDepth 10000 in
theorem c_M_targetOf (σ μ : SG) (x N : Nat) (hN : N ≤ 64) (hL : μ 16 2 = nI N) (hC : Chn (μ 17) (μ 18) N) (hG : Gap (μ 17) (μ 18) N) (hx : x < N) (hs : ¬ μ 18 x = 0) : CF k_M_targetOf [.inr 16, .inl (nI x)] (σ, μ) (some (tgI (μ 17) x)) (σ, μ) := by
  have i1 := ln_in (μ 17 x)
  have hd1 := hC x hx hs
  refine CF.of rfl rfl (Nat.le_of_ble_eq_true rfl) (L := [some (.inr 16), some (.inl (nI x)), none, none]) rfl ?_
  refine P_aload_n d_M_targetOf_0 rfl ?_
  refine g_M_code d_M_targetOf_1 ?_
  refine P_iload_n d_M_targetOf_4 rfl ?_
  refine Q_iald ar_17 (vp_in_nI (by omega) (by decide)) d_M_targetOf_5 ?_
  refine P_top (y := μ 17 x) (by rw [nI_clamp (by omega)]) ?_
  refine P_iconst (v := 4) d_M_targetOf_6 (by decide) ?_
  refine P_icmp_lt 21 d_M_targetOf_7 (by decide) (fun c7 => ?_) (fun c7 => ?_)
  · refine P_sipush (v := (-1000)) d_M_targetOf_21 (by decide) ?_
    exact P_iret d_M_targetOf_24 (by simp [tgI, f_signed, *]) (by rfl)
  · refine P_aload_n d_M_targetOf_10 rfl ?_
    refine g_M_code d_M_targetOf_11 ?_
    refine P_iload_n d_M_targetOf_14 rfl ?_
    refine Q_iald ar_17 (vp_in_nI (by omega) (by decide)) d_M_targetOf_15 ?_
    refine P_top (y := μ 17 x) (by rw [nI_clamp (by omega)]) ?_
    refine P_bipush (v := 6) d_M_targetOf_16 (by decide) ?_
    refine P_icmp_le 25 d_M_targetOf_18 (by decide) (fun c18 => ?_) (fun c18 => ?_)
    · refine P_aload_n d_M_targetOf_25 rfl ?_
      refine P_iload_n d_M_targetOf_26 rfl ?_
      refine cl_M_nextOf (c_M_nextOf _ _ x N hN hL hC hG hx hs) d_M_targetOf_27 (Nat.le_of_ble_eq_true rfl) ?_
      refine P_istore_n (L' := [some (.inr 16), some (.inl _), some (.inl _), none]) d_M_targetOf_30 (by decide) rfl ?_
      refine P_aload_n d_M_targetOf_31 rfl ?_
      refine g_M_code d_M_targetOf_32 ?_
      refine P_iload_n d_M_targetOf_35 rfl ?_
      refine P_iconst (v := 1) d_M_targetOf_36 (by decide) ?_
      refine P_isub d_M_targetOf_37 ?_
      refine P_top (y := nI (x + ln (μ 17 x) - 1)) (pk_sub (b := 1) (by omega)) ?_
      refine Q_iald ar_17 (vp_in_nI (by omega) (by decide)) d_M_targetOf_38 ?_
      refine P_top (y := μ 17 (x + ln (μ 17 x) - 1)) (by rw [nI_clamp (by omega)]) ?_
      refine P_istore_n (L' := [some (.inr 16), some (.inl _), some (.inl _), some (.inl _)]) d_M_targetOf_39 (by decide) rfl ?_
      refine P_iload_n d_M_targetOf_40 rfl ?_
      refine P_iload_n d_M_targetOf_41 rfl ?_
      refine P_bipush (v := 127) d_M_targetOf_42 (by decide) ?_
      refine P_icmp_le 55 d_M_targetOf_44 (by decide) (fun c44 => ?_) (fun c44 => ?_)
      · refine P_iload_n d_M_targetOf_55 rfl ?_
        refine P_iadd d_M_targetOf_56 ?_
        exact P_iret d_M_targetOf_57 (by simp [tgI, f_signed, *]) (by rfl)
      · refine P_iload_n d_M_targetOf_47 rfl ?_
        refine P_sipush (v := 256) d_M_targetOf_48 (by decide) ?_
        refine P_isub d_M_targetOf_51 ?_
        refine P_goto 56 d_M_targetOf_52 (by decide) ?_
        refine P_iadd d_M_targetOf_56 ?_
        exact P_iret d_M_targetOf_57 (by simp [tgI, f_signed, *]) (by rfl)
    · refine P_sipush (v := (-1000)) d_M_targetOf_21 (by decide) ?_
      exact P_iret d_M_targetOf_24 (by simp [tgI, f_signed, *]) (by rfl)
def Ov (μ : SG) (N : Nat) (a m : Int32) (b : Nat) : Prop := ¬ μ 21 b = 0 ∧ ¬ nI (b + mhd (μ 17) (μ 18) N b) ≤ a ∧ ¬ a + m ≤ nI b
def En (P S : Nat → Int32) (a m : Int32) (x : Nat) : Prop := ¬ S x = 0 ∧ ¬ tgI P x ≤ a ∧ ¬ a + m ≤ tgI P x
set_option maxHeartbeats 400000 in
set_option maxRecDepth 10000 in
theorem lp_M_overlaps0 (σ μ : SG) (N : Nat) (a m : Int32) (hN : N ≤ 64) (hL : μ 16 2 = nI N) (hC : Chn (μ 17) (μ 18) N) (hG : Gap (μ 17) (μ 18) N) (hv : ∀ y, y < 64 → ¬ Ov μ N a m y) : ∀ (n i : Nat), i + n = 64 → PW k_M_overlaps (some 0) (σ, μ) 2 [some (.inr 16), some (.inl a), some (.inl m), some (.inl (nI i))] [] (σ, μ) := by
  intro n
  induction n with
  | zero =>
    intro i hi
    rw [show i = 64 by omega]
    refine P_iload_n d_M_overlaps_2 rfl ?_
    refine P_bipush (v := 64) d_M_overlaps_3 (by decide) ?_
    refine P_icmp_ge 43 d_M_overlaps_5 (by decide) (fun c5 => ?_) (fun c5 => False.elim (c5 (by decide)))
    refine P_iconst (v := 0) d_M_overlaps_43 (by decide) ?_
    exact P_zret d_M_overlaps_44 (by decide) (by rfl) (by rfl)
  | succ n ih =>
    intro i hi
    have h4 : i < 64 := by omega
    refine P_iload_n d_M_overlaps_2 rfl ?_
    refine P_bipush (v := 64) d_M_overlaps_3 (by decide) ?_
    refine P_icmp_ge 43 d_M_overlaps_5 (by decide) (fun c5 => False.elim (nI_ge h4 (by omega) c5)) (fun c5 => ?_)
    refine P_aload_n d_M_overlaps_8 rfl ?_
    refine g_M_hooked d_M_overlaps_9 ?_
    refine P_iload_n d_M_overlaps_12 rfl ?_
    refine Q_zald ar_21 (vp_in_nI h4 (by decide)) d_M_overlaps_13 ?_
    refine P_top (y := μ 21 i) (by rw [nI_clamp (by omega)]) ?_
    refine P_if_eq 37 d_M_overlaps_14 (by decide) (fun c14 => ?_) (fun c14 => ?_)
    · refine P_iinc (v := nI (i + 1)) (L' := [some (.inr 16), some (.inl _), some (.inl _), some (.inl _)]) d_M_overlaps_37 rfl (ofInt1 i) (by decide) rfl ?_
      refine P_goto 2 d_M_overlaps_40 (by decide) ?_
      exact ih (i + 1) (by omega)
    · refine P_iload_n d_M_overlaps_17 rfl ?_
      refine P_iload_n d_M_overlaps_18 rfl ?_
      refine P_aload_n d_M_overlaps_19 rfl ?_
      refine P_iload_n d_M_overlaps_20 rfl ?_
      refine cl_M_headOf (c_M_headOf _ _ i N hN hL hC hG h4) d_M_overlaps_21 (Nat.le_of_ble_eq_true rfl) ?_
      refine P_iadd d_M_overlaps_24 ?_
      refine P_top (y := nI (i + mhd (μ 17) (μ 18) N i)) (nI_add _ _) ?_
      refine P_icmp_ge 37 d_M_overlaps_25 (by decide) (fun c25 => ?_) (fun c25 => ?_)
      · refine P_iinc (v := nI (i + 1)) (L' := [some (.inr 16), some (.inl _), some (.inl _), some (.inl _)]) d_M_overlaps_37 rfl (ofInt1 i) (by decide) rfl ?_
        refine P_goto 2 d_M_overlaps_40 (by decide) ?_
        exact ih (i + 1) (by omega)
      · refine P_iload_n d_M_overlaps_28 rfl ?_
        refine P_iload_n d_M_overlaps_29 rfl ?_
        refine P_iload_n d_M_overlaps_30 rfl ?_
        refine P_iadd d_M_overlaps_31 ?_
        refine P_icmp_ge 37 d_M_overlaps_32 (by decide) (fun c32 => ?_) (fun c32 => ?_)
        · refine P_iinc (v := nI (i + 1)) (L' := [some (.inr 16), some (.inl _), some (.inl _), some (.inl _)]) d_M_overlaps_37 rfl (ofInt1 i) (by decide) rfl ?_
          refine P_goto 2 d_M_overlaps_40 (by decide) ?_
          exact ih (i + 1) (by omega)
        · refine P_iconst (v := 1) d_M_overlaps_35 (by decide) ?_
          exact absurd ⟨c14, c25, c32⟩ (hv i h4)
set_option maxHeartbeats 400000 in
set_option maxRecDepth 10000 in
theorem lp_M_overlaps1 (σ μ : SG) (N : Nat) (a m : Int32) (hN : N ≤ 64) (hL : μ 16 2 = nI N) (hC : Chn (μ 17) (μ 18) N) (hG : Gap (μ 17) (μ 18) N) : ∀ (n i : Nat), i + n = 64 → (∃ y, i ≤ y ∧ y < 64 ∧ Ov μ N a m y) → PW k_M_overlaps (some 1) (σ, μ) 2 [some (.inr 16), some (.inl a), some (.inl m), some (.inl (nI i))] [] (σ, μ) := by
  intro n
  induction n with
  | zero =>
    intro i hi hv
    obtain ⟨y, hy, hy2, -⟩ := hv
    exact absurd hy2 (by omega)
  | succ n ih =>
    intro i hi hv
    have h4 : i < 64 := by omega
    refine P_iload_n d_M_overlaps_2 rfl ?_
    refine P_bipush (v := 64) d_M_overlaps_3 (by decide) ?_
    refine P_icmp_ge 43 d_M_overlaps_5 (by decide) (fun c5 => False.elim (nI_ge h4 (by omega) c5)) (fun c5 => ?_)
    refine P_aload_n d_M_overlaps_8 rfl ?_
    refine g_M_hooked d_M_overlaps_9 ?_
    refine P_iload_n d_M_overlaps_12 rfl ?_
    refine Q_zald ar_21 (vp_in_nI h4 (by decide)) d_M_overlaps_13 ?_
    refine P_top (y := μ 21 i) (by rw [nI_clamp (by omega)]) ?_
    refine P_if_eq 37 d_M_overlaps_14 (by decide) (fun c14 => ?_) (fun c14 => ?_)
    · refine P_iinc (v := nI (i + 1)) (L' := [some (.inr 16), some (.inl _), some (.inl _), some (.inl _)]) d_M_overlaps_37 rfl (ofInt1 i) (by decide) rfl ?_
      refine P_goto 2 d_M_overlaps_40 (by decide) ?_
      exact ih (i + 1) (by omega) (by
        obtain ⟨y, hy, hy2, hy3⟩ := hv
        rcases Nat.lt_or_ge i y with q | q
        · exact ⟨y, q, hy2, hy3⟩
        · obtain rfl : y = i := by omega
          obtain ⟨o1, o2, o3⟩ := hy3
          first | exact absurd c14 o1 | exact absurd c25 o2 | exact absurd c32 o3)
    · refine P_iload_n d_M_overlaps_17 rfl ?_
      refine P_iload_n d_M_overlaps_18 rfl ?_
      refine P_aload_n d_M_overlaps_19 rfl ?_
      refine P_iload_n d_M_overlaps_20 rfl ?_
      refine cl_M_headOf (c_M_headOf _ _ i N hN hL hC hG h4) d_M_overlaps_21 (Nat.le_of_ble_eq_true rfl) ?_
      refine P_iadd d_M_overlaps_24 ?_
      refine P_top (y := nI (i + mhd (μ 17) (μ 18) N i)) (nI_add _ _) ?_
      refine P_icmp_ge 37 d_M_overlaps_25 (by decide) (fun c25 => ?_) (fun c25 => ?_)
      · refine P_iinc (v := nI (i + 1)) (L' := [some (.inr 16), some (.inl _), some (.inl _), some (.inl _)]) d_M_overlaps_37 rfl (ofInt1 i) (by decide) rfl ?_
        refine P_goto 2 d_M_overlaps_40 (by decide) ?_
        exact ih (i + 1) (by omega) (by
          obtain ⟨y, hy, hy2, hy3⟩ := hv
          rcases Nat.lt_or_ge i y with q | q
          · exact ⟨y, q, hy2, hy3⟩
          · obtain rfl : y = i := by omega
            obtain ⟨o1, o2, o3⟩ := hy3
            first | exact absurd c14 o1 | exact absurd c25 o2 | exact absurd c32 o3)
      · refine P_iload_n d_M_overlaps_28 rfl ?_
        refine P_iload_n d_M_overlaps_29 rfl ?_
        refine P_iload_n d_M_overlaps_30 rfl ?_
        refine P_iadd d_M_overlaps_31 ?_
        refine P_icmp_ge 37 d_M_overlaps_32 (by decide) (fun c32 => ?_) (fun c32 => ?_)
        · refine P_iinc (v := nI (i + 1)) (L' := [some (.inr 16), some (.inl _), some (.inl _), some (.inl _)]) d_M_overlaps_37 rfl (ofInt1 i) (by decide) rfl ?_
          refine P_goto 2 d_M_overlaps_40 (by decide) ?_
          exact ih (i + 1) (by omega) (by
            obtain ⟨y, hy, hy2, hy3⟩ := hv
            rcases Nat.lt_or_ge i y with q | q
            · exact ⟨y, q, hy2, hy3⟩
            · obtain rfl : y = i := by omega
              obtain ⟨o1, o2, o3⟩ := hy3
              first | exact absurd c14 o1 | exact absurd c25 o2 | exact absurd c32 o3)
        · refine P_iconst (v := 1) d_M_overlaps_35 (by decide) ?_
          exact P_zret d_M_overlaps_36 (by decide) rfl rfl
set_option maxHeartbeats 400000 in
set_option maxRecDepth 10000 in
theorem lp_M_isEntered0 (σ μ : SG) (N : Nat) (a m : Int32) (hN : N ≤ 64) (hL : μ 16 2 = nI N) (hC : Chn (μ 17) (μ 18) N) (hG : Gap (μ 17) (μ 18) N) (ha : (-1000 : Int32) ≤ a) (hv : ∀ y, y < N → ¬ En (μ 17) (μ 18) a m y) : ∀ (n i : Nat) (w : Option PV), i + n = N → PW k_M_isEntered (some 0) (σ, μ) 2 [some (.inr 16), some (.inl a), some (.inl m), some (.inl (nI i)), w] [] (σ, μ) := by
  intro n
  induction n with
  | zero =>
    intro i w hi
    rw [show i = N by omega]
    refine P_iload_n d_M_isEntered_2 rfl ?_
    refine P_aload_n d_M_isEntered_3 rfl ?_
    refine g_M_length d_M_isEntered_4 ?_
    refine P_top (y := nI N) (hL) ?_
    refine P_icmp_ge 54 d_M_isEntered_7 (by decide) (fun c7 => ?_) (fun c7 => False.elim (c7 (Int32.le_refl _)))
    refine P_iconst (v := 0) d_M_isEntered_54 (by decide) ?_
    exact P_zret d_M_isEntered_55 (by decide) (by rfl) (by rfl)
  | succ n ih =>
    intro i w hi
    have h4 : i < N := by omega
    refine P_iload_n d_M_isEntered_2 rfl ?_
    refine P_aload_n d_M_isEntered_3 rfl ?_
    refine g_M_length d_M_isEntered_4 ?_
    refine P_top (y := nI N) (hL) ?_
    refine P_icmp_ge 54 d_M_isEntered_7 (by decide) (fun c7 => False.elim (nI_ge h4 (by omega) c7)) (fun c7 => ?_)
    refine P_aload_n d_M_isEntered_10 rfl ?_
    refine g_M_begins d_M_isEntered_11 ?_
    refine P_iload_n d_M_isEntered_14 rfl ?_
    refine Q_zald ar_18 (vp_in_nI (show i < 64 by omega) (by decide)) d_M_isEntered_15 ?_
    refine P_top (y := μ 18 i) (by rw [nI_clamp (by omega)]) ?_
    refine P_if_eq 27 d_M_isEntered_16 (by decide) (fun c16 => ?_) (fun c16 => ?_)
    · refine P_sipush (v := (-1000)) d_M_isEntered_27 (by decide) ?_
      refine P_istore (L' := [some (.inr 16), some (.inl _), some (.inl _), some (.inl _), some (.inl (-1000))]) d_M_isEntered_30 (by decide) rfl ?_
      refine P_iload d_M_isEntered_32 rfl ?_
      refine P_iload_n d_M_isEntered_34 rfl ?_
      refine P_icmp_le 48 d_M_isEntered_35 (by decide) (fun c35 => ?_) (fun c35 => False.elim (c35 ha))
      refine P_iinc (v := nI (i + 1)) (L' := [some (.inr 16), some (.inl _), some (.inl _), some (.inl _), some (.inl (-1000))]) d_M_isEntered_48 rfl (ofInt1 i) (by decide) rfl ?_
      refine P_goto 2 d_M_isEntered_51 (by decide) ?_
      exact ih (i + 1) _ (by omega)
    · refine P_aload_n d_M_isEntered_19 rfl ?_
      refine P_iload_n d_M_isEntered_20 rfl ?_
      refine cl_M_targetOf (c_M_targetOf _ _ i N hN hL hC hG h4 c16) d_M_isEntered_21 (Nat.le_of_ble_eq_true rfl) ?_
      refine P_goto 30 d_M_isEntered_24 (by decide) ?_
      refine P_istore (L' := [some (.inr 16), some (.inl _), some (.inl _), some (.inl _), some (.inl _)]) d_M_isEntered_30 (by decide) rfl ?_
      refine P_iload d_M_isEntered_32 rfl ?_
      refine P_iload_n d_M_isEntered_34 rfl ?_
      refine P_icmp_le 48 d_M_isEntered_35 (by decide) (fun c35 => ?_) (fun c35 => ?_)
      · refine P_iinc (v := nI (i + 1)) (L' := [some (.inr 16), some (.inl _), some (.inl _), some (.inl _), some (.inl _)]) d_M_isEntered_48 rfl (ofInt1 i) (by decide) rfl ?_
        refine P_goto 2 d_M_isEntered_51 (by decide) ?_
        exact ih (i + 1) _ (by omega)
      · refine P_iload d_M_isEntered_38 rfl ?_
        refine P_iload_n d_M_isEntered_40 rfl ?_
        refine P_iload_n d_M_isEntered_41 rfl ?_
        refine P_iadd d_M_isEntered_42 ?_
        refine P_icmp_ge 48 d_M_isEntered_43 (by decide) (fun c43 => ?_) (fun c43 => ?_)
        · refine P_iinc (v := nI (i + 1)) (L' := [some (.inr 16), some (.inl _), some (.inl _), some (.inl _), some (.inl _)]) d_M_isEntered_48 rfl (ofInt1 i) (by decide) rfl ?_
          refine P_goto 2 d_M_isEntered_51 (by decide) ?_
          exact ih (i + 1) _ (by omega)
        · refine P_iconst (v := 1) d_M_isEntered_46 (by decide) ?_
          exact absurd ⟨c16, c35, c43⟩ (hv i h4)
set_option maxHeartbeats 400000 in
set_option maxRecDepth 10000 in
theorem lp_M_isEntered1 (σ μ : SG) (N : Nat) (a m : Int32) (hN : N ≤ 64) (hL : μ 16 2 = nI N) (hC : Chn (μ 17) (μ 18) N) (hG : Gap (μ 17) (μ 18) N) (ha : (-1000 : Int32) ≤ a) : ∀ (n i : Nat) (w : Option PV), i + n = N → (∃ y, i ≤ y ∧ y < N ∧ En (μ 17) (μ 18) a m y) → PW k_M_isEntered (some 1) (σ, μ) 2 [some (.inr 16), some (.inl a), some (.inl m), some (.inl (nI i)), w] [] (σ, μ) := by
  intro n
  induction n with
  | zero =>
    intro i w hi hv
    obtain ⟨y, hy, hy2, -⟩ := hv
    exact absurd hy2 (by omega)
  | succ n ih =>
    intro i w hi hv
    have h4 : i < N := by omega
    refine P_iload_n d_M_isEntered_2 rfl ?_
    refine P_aload_n d_M_isEntered_3 rfl ?_
    refine g_M_length d_M_isEntered_4 ?_
    refine P_top (y := nI N) (hL) ?_
    refine P_icmp_ge 54 d_M_isEntered_7 (by decide) (fun c7 => False.elim (nI_ge h4 (by omega) c7)) (fun c7 => ?_)
    refine P_aload_n d_M_isEntered_10 rfl ?_
    refine g_M_begins d_M_isEntered_11 ?_
    refine P_iload_n d_M_isEntered_14 rfl ?_
    refine Q_zald ar_18 (vp_in_nI (show i < 64 by omega) (by decide)) d_M_isEntered_15 ?_
    refine P_top (y := μ 18 i) (by rw [nI_clamp (by omega)]) ?_
    refine P_if_eq 27 d_M_isEntered_16 (by decide) (fun c16 => ?_) (fun c16 => ?_)
    · refine P_sipush (v := (-1000)) d_M_isEntered_27 (by decide) ?_
      refine P_istore (L' := [some (.inr 16), some (.inl _), some (.inl _), some (.inl _), some (.inl (-1000))]) d_M_isEntered_30 (by decide) rfl ?_
      refine P_iload d_M_isEntered_32 rfl ?_
      refine P_iload_n d_M_isEntered_34 rfl ?_
      refine P_icmp_le 48 d_M_isEntered_35 (by decide) (fun c35 => ?_) (fun c35 => False.elim (c35 ha))
      refine P_iinc (v := nI (i + 1)) (L' := [some (.inr 16), some (.inl _), some (.inl _), some (.inl _), some (.inl (-1000))]) d_M_isEntered_48 rfl (ofInt1 i) (by decide) rfl ?_
      refine P_goto 2 d_M_isEntered_51 (by decide) ?_
      exact ih (i + 1) _ (by omega) (by
        obtain ⟨y, hy, hy2, hy3⟩ := hv
        rcases Nat.lt_or_ge i y with q | q
        · exact ⟨y, q, hy2, hy3⟩
        · obtain rfl : y = i := by omega
          obtain ⟨o1, o2, o3⟩ := hy3
          first | exact absurd c16 o1 | exact absurd c35 o2 | exact absurd c43 o3)
    · refine P_aload_n d_M_isEntered_19 rfl ?_
      refine P_iload_n d_M_isEntered_20 rfl ?_
      refine cl_M_targetOf (c_M_targetOf _ _ i N hN hL hC hG h4 c16) d_M_isEntered_21 (Nat.le_of_ble_eq_true rfl) ?_
      refine P_goto 30 d_M_isEntered_24 (by decide) ?_
      refine P_istore (L' := [some (.inr 16), some (.inl _), some (.inl _), some (.inl _), some (.inl _)]) d_M_isEntered_30 (by decide) rfl ?_
      refine P_iload d_M_isEntered_32 rfl ?_
      refine P_iload_n d_M_isEntered_34 rfl ?_
      refine P_icmp_le 48 d_M_isEntered_35 (by decide) (fun c35 => ?_) (fun c35 => ?_)
      · refine P_iinc (v := nI (i + 1)) (L' := [some (.inr 16), some (.inl _), some (.inl _), some (.inl _), some (.inl _)]) d_M_isEntered_48 rfl (ofInt1 i) (by decide) rfl ?_
        refine P_goto 2 d_M_isEntered_51 (by decide) ?_
        exact ih (i + 1) _ (by omega) (by
          obtain ⟨y, hy, hy2, hy3⟩ := hv
          rcases Nat.lt_or_ge i y with q | q
          · exact ⟨y, q, hy2, hy3⟩
          · obtain rfl : y = i := by omega
            obtain ⟨o1, o2, o3⟩ := hy3
            first | exact absurd c16 o1 | exact absurd c35 o2 | exact absurd c43 o3)
      · refine P_iload d_M_isEntered_38 rfl ?_
        refine P_iload_n d_M_isEntered_40 rfl ?_
        refine P_iload_n d_M_isEntered_41 rfl ?_
        refine P_iadd d_M_isEntered_42 ?_
        refine P_icmp_ge 48 d_M_isEntered_43 (by decide) (fun c43 => ?_) (fun c43 => ?_)
        · refine P_iinc (v := nI (i + 1)) (L' := [some (.inr 16), some (.inl _), some (.inl _), some (.inl _), some (.inl _)]) d_M_isEntered_48 rfl (ofInt1 i) (by decide) rfl ?_
          refine P_goto 2 d_M_isEntered_51 (by decide) ?_
          exact ih (i + 1) _ (by omega) (by
            obtain ⟨y, hy, hy2, hy3⟩ := hv
            rcases Nat.lt_or_ge i y with q | q
            · exact ⟨y, q, hy2, hy3⟩
            · obtain rfl : y = i := by omega
              obtain ⟨o1, o2, o3⟩ := hy3
              first | exact absurd c16 o1 | exact absurd c35 o2 | exact absurd c43 o3)
        · refine P_iconst (v := 1) d_M_isEntered_46 (by decide) ?_
          exact P_zret d_M_isEntered_47 (by decide) rfl rfl
set_option maxHeartbeats 400000 in
set_option maxRecDepth 10000 in
theorem c_M_overlaps0 (σ μ : SG) (N : Nat) (a m : Int32) (hN : N ≤ 64) (hL : μ 16 2 = nI N) (hC : Chn (μ 17) (μ 18) N) (hG : Gap (μ 17) (μ 18) N) (hv : ∀ y, y < 64 → ¬ Ov μ N a m y) : CF k_M_overlaps [.inr 16, .inl a, .inl m] (σ, μ) (some 0) (σ, μ) := by
  refine CF.of rfl rfl (Nat.le_of_ble_eq_true rfl) (L := [some (.inr 16), some (.inl a), some (.inl m), none]) rfl ?_
  refine P_iconst (v := 0) d_M_overlaps_0 (by decide) ?_
  refine P_istore_n (L' := [some (.inr 16), some (.inl _), some (.inl _), some (.inl 0)]) d_M_overlaps_1 (by decide) rfl ?_
  exact lp_M_overlaps0 σ μ N a m hN hL hC hG hv 64 0 rfl
set_option maxHeartbeats 400000 in
set_option maxRecDepth 10000 in
theorem c_M_overlaps1 (σ μ : SG) (N : Nat) (a m : Int32) (hN : N ≤ 64) (hL : μ 16 2 = nI N) (hC : Chn (μ 17) (μ 18) N) (hG : Gap (μ 17) (μ 18) N) (hv : ∃ y, y < 64 ∧ Ov μ N a m y) : CF k_M_overlaps [.inr 16, .inl a, .inl m] (σ, μ) (some 1) (σ, μ) := by
  refine CF.of rfl rfl (Nat.le_of_ble_eq_true rfl) (L := [some (.inr 16), some (.inl a), some (.inl m), none]) rfl ?_
  refine P_iconst (v := 0) d_M_overlaps_0 (by decide) ?_
  refine P_istore_n (L' := [some (.inr 16), some (.inl _), some (.inl _), some (.inl 0)]) d_M_overlaps_1 (by decide) rfl ?_
  exact lp_M_overlaps1 σ μ N a m hN hL hC hG 64 0 rfl (by obtain ⟨y, h1, h2⟩ := hv; exact ⟨y, Nat.zero_le y, h1, h2⟩)
set_option maxHeartbeats 400000 in
set_option maxRecDepth 10000 in
theorem c_M_isEntered0 (σ μ : SG) (N : Nat) (a m : Int32) (hN : N ≤ 64) (hL : μ 16 2 = nI N) (hC : Chn (μ 17) (μ 18) N) (hG : Gap (μ 17) (μ 18) N) (ha : (-1000 : Int32) ≤ a) (hv : ∀ y, y < N → ¬ En (μ 17) (μ 18) a m y) : CF k_M_isEntered [.inr 16, .inl a, .inl m] (σ, μ) (some 0) (σ, μ) := by
  refine CF.of rfl rfl (Nat.le_of_ble_eq_true rfl) (L := [some (.inr 16), some (.inl a), some (.inl m), none, none]) rfl ?_
  refine P_iconst (v := 0) d_M_isEntered_0 (by decide) ?_
  refine P_istore_n (L' := [some (.inr 16), some (.inl _), some (.inl _), some (.inl 0), none]) d_M_isEntered_1 (by decide) rfl ?_
  exact lp_M_isEntered0 σ μ N a m hN hL hC hG ha hv N 0 _ (by omega)
set_option maxHeartbeats 400000 in
set_option maxRecDepth 10000 in
theorem c_M_isEntered1 (σ μ : SG) (N : Nat) (a m : Int32) (hN : N ≤ 64) (hL : μ 16 2 = nI N) (hC : Chn (μ 17) (μ 18) N) (hG : Gap (μ 17) (μ 18) N) (ha : (-1000 : Int32) ≤ a) (hv : ∃ y, y < N ∧ En (μ 17) (μ 18) a m y) : CF k_M_isEntered [.inr 16, .inl a, .inl m] (σ, μ) (some 1) (σ, μ) := by
  refine CF.of rfl rfl (Nat.le_of_ble_eq_true rfl) (L := [some (.inr 16), some (.inl a), some (.inl m), none, none]) rfl ?_
  refine P_iconst (v := 0) d_M_isEntered_0 (by decide) ?_
  refine P_istore_n (L' := [some (.inr 16), some (.inl _), some (.inl _), some (.inl 0), none]) d_M_isEntered_1 (by decide) rfl ?_
  exact lp_M_isEntered1 σ μ N a m hN hL hC hG ha N 0 _ (by omega) (by obtain ⟨y, h1, h2⟩ := hv; exact ⟨y, Nat.zero_le y, h1, h2⟩)
set_option maxHeartbeats 400000 in
set_option maxRecDepth 10000 in
theorem c_M_hook_bad (σ μ : SG) (a : Int32) (h : a < 0 ∨ ¬ a ≤ 63) : CF k_M_hook [.inr 16, .inl a] (σ, μ) (some (-1)) (σ, μ) := by
  refine CF.of rfl rfl (Nat.le_of_ble_eq_true rfl) (L := [some (.inr 16), some (.inl a), none]) rfl ?_
  refine P_iload_n d_M_hook_0 rfl ?_
  refine P_if_lt 10 d_M_hook_1 (by decide) (fun c1 => ?_) (fun c1 => ?_)
  · refine P_iconst (v := (-1)) d_M_hook_10 (by decide) ?_
    exact P_iret d_M_hook_11 (by rfl) (by rfl)
  · refine P_iload_n d_M_hook_4 rfl ?_
    refine P_bipush (v := 63) d_M_hook_5 (by decide) ?_
    refine P_icmp_le 12 d_M_hook_7 (by decide) (fun c7 => False.elim (h.elim c1 (fun q => q c7))) (fun c7 => ?_)
    refine P_iconst (v := (-1)) d_M_hook_10 (by decide) ?_
    exact P_iret d_M_hook_11 (by rfl) (by rfl)
set_option maxHeartbeats 400000 in
set_option maxRecDepth 10000 in
theorem c_M_hook_hooked (σ μ : SG) (a N : Nat) (hN : N ≤ 64) (hL : μ 16 2 = nI N) (hC : Chn (μ 17) (μ 18) N) (hG : Gap (μ 17) (μ 18) N) (ha : a < 64) (h1 : ¬ μ 21 a = 0) : CF k_M_hook [.inr 16, .inl (nI a)] (σ, μ) (some (-3)) (σ, μ) := by
  refine CF.of rfl rfl (Nat.le_of_ble_eq_true rfl) (L := [some (.inr 16), some (.inl (nI a)), none]) rfl ?_
  refine P_iload_n d_M_hook_0 rfl ?_
  refine P_if_lt 10 d_M_hook_1 (by decide) (fun c1 => False.elim (nI_pos (by omega) c1)) (fun c1 => ?_)
  refine P_iload_n d_M_hook_4 rfl ?_
  refine P_bipush (v := 63) d_M_hook_5 (by decide) ?_
  refine P_icmp_le 12 d_M_hook_7 (by decide) (fun c7 => ?_) (fun c7 => False.elim (c7 (nI_le (b := 63) (by omega) (by decide))))
  refine P_aload_n d_M_hook_12 rfl ?_
  refine g_M_hooked d_M_hook_13 ?_
  refine P_iload_n d_M_hook_16 rfl ?_
  refine Q_zald ar_21 (vp_in_nI ha (by decide)) d_M_hook_17 ?_
  refine P_top (y := μ 21 a) (by rw [nI_clamp (by omega)]) ?_
  refine P_if_eq 24 d_M_hook_18 (by decide) (fun c18 => False.elim (h1 c18)) (fun c18 => ?_)
  refine P_bipush (v := (-3)) d_M_hook_21 (by decide) ?_
  exact P_iret d_M_hook_23 (by rfl) (by rfl)
set_option maxHeartbeats 400000 in
set_option maxRecDepth 10000 in
theorem c_M_hook_full (σ μ : SG) (a N : Nat) (hN : N ≤ 64) (hL : μ 16 2 = nI N) (hC : Chn (μ 17) (μ 18) N) (hG : Gap (μ 17) (μ 18) N) (ha : a < 64) (h1 : μ 21 a = 0) (h2 : cntM μ 64 = 4) : CF k_M_hook [.inr 16, .inl (nI a)] (σ, μ) (some (-2)) (σ, μ) := by
  refine CF.of rfl rfl (Nat.le_of_ble_eq_true rfl) (L := [some (.inr 16), some (.inl (nI a)), none]) rfl ?_
  refine P_iload_n d_M_hook_0 rfl ?_
  refine P_if_lt 10 d_M_hook_1 (by decide) (fun c1 => False.elim (nI_pos (by omega) c1)) (fun c1 => ?_)
  refine P_iload_n d_M_hook_4 rfl ?_
  refine P_bipush (v := 63) d_M_hook_5 (by decide) ?_
  refine P_icmp_le 12 d_M_hook_7 (by decide) (fun c7 => ?_) (fun c7 => False.elim (c7 (nI_le (b := 63) (by omega) (by decide))))
  refine P_aload_n d_M_hook_12 rfl ?_
  refine g_M_hooked d_M_hook_13 ?_
  refine P_iload_n d_M_hook_16 rfl ?_
  refine Q_zald ar_21 (vp_in_nI ha (by decide)) d_M_hook_17 ?_
  refine P_top (y := μ 21 a) (by rw [nI_clamp (by omega)]) ?_
  refine P_if_eq 24 d_M_hook_18 (by decide) (fun c18 => ?_) (fun c18 => False.elim (c18 h1))
  refine P_aload_n d_M_hook_24 rfl ?_
  refine cl_M_hooks (c_M_hooks _ _) d_M_hook_25 (Nat.le_of_ble_eq_true rfl) ?_
  refine P_iconst (v := 4) d_M_hook_28 (by decide) ?_
  refine P_icmp_ne 35 d_M_hook_29 (by decide) (fun c29 => False.elim (c29 h2)) (fun c29 => ?_)
  refine P_bipush (v := (-2)) d_M_hook_32 (by decide) ?_
  exact P_iret d_M_hook_34 (by rfl) (by rfl)
set_option maxHeartbeats 400000 in
set_option maxRecDepth 10000 in
theorem c_M_hook_nohead (σ μ : SG) (a N : Nat) (hN : N ≤ 64) (hL : μ 16 2 = nI N) (hC : Chn (μ 17) (μ 18) N) (hG : Gap (μ 17) (μ 18) N) (ha : a < 64) (h1 : μ 21 a = 0) (h2 : ¬ cntM μ 64 = 4) (h3 : mhd (μ 17) (μ 18) N a = 0) : CF k_M_hook [.inr 16, .inl (nI a)] (σ, μ) (some (-4)) (σ, μ) := by
  refine CF.of rfl rfl (Nat.le_of_ble_eq_true rfl) (L := [some (.inr 16), some (.inl (nI a)), none]) rfl ?_
  refine P_iload_n d_M_hook_0 rfl ?_
  refine P_if_lt 10 d_M_hook_1 (by decide) (fun c1 => False.elim (nI_pos (by omega) c1)) (fun c1 => ?_)
  refine P_iload_n d_M_hook_4 rfl ?_
  refine P_bipush (v := 63) d_M_hook_5 (by decide) ?_
  refine P_icmp_le 12 d_M_hook_7 (by decide) (fun c7 => ?_) (fun c7 => False.elim (c7 (nI_le (b := 63) (by omega) (by decide))))
  refine P_aload_n d_M_hook_12 rfl ?_
  refine g_M_hooked d_M_hook_13 ?_
  refine P_iload_n d_M_hook_16 rfl ?_
  refine Q_zald ar_21 (vp_in_nI ha (by decide)) d_M_hook_17 ?_
  refine P_top (y := μ 21 a) (by rw [nI_clamp (by omega)]) ?_
  refine P_if_eq 24 d_M_hook_18 (by decide) (fun c18 => ?_) (fun c18 => False.elim (c18 h1))
  refine P_aload_n d_M_hook_24 rfl ?_
  refine cl_M_hooks (c_M_hooks _ _) d_M_hook_25 (Nat.le_of_ble_eq_true rfl) ?_
  refine P_iconst (v := 4) d_M_hook_28 (by decide) ?_
  refine P_icmp_ne 35 d_M_hook_29 (by decide) (fun c29 => ?_) (fun c29 => False.elim (h2 c29))
  refine P_aload_n d_M_hook_35 rfl ?_
  refine P_iload_n d_M_hook_36 rfl ?_
  refine cl_M_headOf (c_M_headOf _ _ a N hN hL hC hG ha) d_M_hook_37 (Nat.le_of_ble_eq_true rfl) ?_
  refine P_istore_n (L' := [some (.inr 16), some (.inl _), some (.inl _)]) d_M_hook_40 (by decide) rfl ?_
  refine P_iload_n d_M_hook_41 rfl ?_
  refine P_if_eq 63 d_M_hook_42 (by decide) (fun c42 => ?_) (fun c42 => False.elim (c42 (by rw [h3]; rfl)))
  refine P_bipush (v := (-4)) d_M_hook_63 (by decide) ?_
  exact P_iret d_M_hook_65 (by rfl) (by rfl)
set_option maxHeartbeats 400000 in
set_option maxRecDepth 10000 in
theorem c_M_hook_ov (σ μ : SG) (a N : Nat) (hN : N ≤ 64) (hL : μ 16 2 = nI N) (hC : Chn (μ 17) (μ 18) N) (hG : Gap (μ 17) (μ 18) N) (ha : a < 64) (h1 : μ 21 a = 0) (h2 : ¬ cntM μ 64 = 4) (h3 : 0 < mhd (μ 17) (μ 18) N a) (hv : ∃ y, y < 64 ∧ Ov μ N (nI a) (nI (mhd (μ 17) (μ 18) N a)) y) : CF k_M_hook [.inr 16, .inl (nI a)] (σ, μ) (some (-4)) (σ, μ) := by
  refine CF.of rfl rfl (Nat.le_of_ble_eq_true rfl) (L := [some (.inr 16), some (.inl (nI a)), none]) rfl ?_
  refine P_iload_n d_M_hook_0 rfl ?_
  refine P_if_lt 10 d_M_hook_1 (by decide) (fun c1 => False.elim (nI_pos (by omega) c1)) (fun c1 => ?_)
  refine P_iload_n d_M_hook_4 rfl ?_
  refine P_bipush (v := 63) d_M_hook_5 (by decide) ?_
  refine P_icmp_le 12 d_M_hook_7 (by decide) (fun c7 => ?_) (fun c7 => False.elim (c7 (nI_le (b := 63) (by omega) (by decide))))
  refine P_aload_n d_M_hook_12 rfl ?_
  refine g_M_hooked d_M_hook_13 ?_
  refine P_iload_n d_M_hook_16 rfl ?_
  refine Q_zald ar_21 (vp_in_nI ha (by decide)) d_M_hook_17 ?_
  refine P_top (y := μ 21 a) (by rw [nI_clamp (by omega)]) ?_
  refine P_if_eq 24 d_M_hook_18 (by decide) (fun c18 => ?_) (fun c18 => False.elim (c18 h1))
  refine P_aload_n d_M_hook_24 rfl ?_
  refine cl_M_hooks (c_M_hooks _ _) d_M_hook_25 (Nat.le_of_ble_eq_true rfl) ?_
  refine P_iconst (v := 4) d_M_hook_28 (by decide) ?_
  refine P_icmp_ne 35 d_M_hook_29 (by decide) (fun c29 => ?_) (fun c29 => False.elim (h2 c29))
  refine P_aload_n d_M_hook_35 rfl ?_
  refine P_iload_n d_M_hook_36 rfl ?_
  refine cl_M_headOf (c_M_headOf _ _ a N hN hL hC hG ha) d_M_hook_37 (Nat.le_of_ble_eq_true rfl) ?_
  refine P_istore_n (L' := [some (.inr 16), some (.inl _), some (.inl _)]) d_M_hook_40 (by decide) rfl ?_
  refine P_iload_n d_M_hook_41 rfl ?_
  refine P_if_eq 63 d_M_hook_42 (by decide) (fun c42 => False.elim (nI_ne0 h3 (Nat.lt_of_le_of_lt (mhd_le _ _ _ _) (by decide)) c42)) (fun c42 => ?_)
  refine P_aload_n d_M_hook_45 rfl ?_
  refine P_iload_n d_M_hook_46 rfl ?_
  refine P_iload_n d_M_hook_47 rfl ?_
  refine cl_M_overlaps (c_M_overlaps1 _ _ N _ _ hN hL hC hG hv) d_M_hook_48 (Nat.le_of_ble_eq_true rfl) ?_
  refine P_top (y := 1) (rfl) ?_
  refine P_if_ne 63 d_M_hook_51 (by decide) (fun _ => ?_) (fun hc => absurd hc (by decide))
  refine P_bipush (v := (-4)) d_M_hook_63 (by decide) ?_
  exact P_iret d_M_hook_65 (by rfl) (by rfl)
set_option maxHeartbeats 400000 in
set_option maxRecDepth 10000 in
theorem c_M_hook_en (σ μ : SG) (a N : Nat) (hN : N ≤ 64) (hL : μ 16 2 = nI N) (hC : Chn (μ 17) (μ 18) N) (hG : Gap (μ 17) (μ 18) N) (ha : a < 64) (h1 : μ 21 a = 0) (h2 : ¬ cntM μ 64 = 4) (h3 : 0 < mhd (μ 17) (μ 18) N a) (hv : ∀ y, y < 64 → ¬ Ov μ N (nI a) (nI (mhd (μ 17) (μ 18) N a)) y) (he : ∃ y, y < N ∧ En (μ 17) (μ 18) (nI a) (nI (mhd (μ 17) (μ 18) N a)) y) : CF k_M_hook [.inr 16, .inl (nI a)] (σ, μ) (some (-4)) (σ, μ) := by
  refine CF.of rfl rfl (Nat.le_of_ble_eq_true rfl) (L := [some (.inr 16), some (.inl (nI a)), none]) rfl ?_
  refine P_iload_n d_M_hook_0 rfl ?_
  refine P_if_lt 10 d_M_hook_1 (by decide) (fun c1 => False.elim (nI_pos (by omega) c1)) (fun c1 => ?_)
  refine P_iload_n d_M_hook_4 rfl ?_
  refine P_bipush (v := 63) d_M_hook_5 (by decide) ?_
  refine P_icmp_le 12 d_M_hook_7 (by decide) (fun c7 => ?_) (fun c7 => False.elim (c7 (nI_le (b := 63) (by omega) (by decide))))
  refine P_aload_n d_M_hook_12 rfl ?_
  refine g_M_hooked d_M_hook_13 ?_
  refine P_iload_n d_M_hook_16 rfl ?_
  refine Q_zald ar_21 (vp_in_nI ha (by decide)) d_M_hook_17 ?_
  refine P_top (y := μ 21 a) (by rw [nI_clamp (by omega)]) ?_
  refine P_if_eq 24 d_M_hook_18 (by decide) (fun c18 => ?_) (fun c18 => False.elim (c18 h1))
  refine P_aload_n d_M_hook_24 rfl ?_
  refine cl_M_hooks (c_M_hooks _ _) d_M_hook_25 (Nat.le_of_ble_eq_true rfl) ?_
  refine P_iconst (v := 4) d_M_hook_28 (by decide) ?_
  refine P_icmp_ne 35 d_M_hook_29 (by decide) (fun c29 => ?_) (fun c29 => False.elim (h2 c29))
  refine P_aload_n d_M_hook_35 rfl ?_
  refine P_iload_n d_M_hook_36 rfl ?_
  refine cl_M_headOf (c_M_headOf _ _ a N hN hL hC hG ha) d_M_hook_37 (Nat.le_of_ble_eq_true rfl) ?_
  refine P_istore_n (L' := [some (.inr 16), some (.inl _), some (.inl _)]) d_M_hook_40 (by decide) rfl ?_
  refine P_iload_n d_M_hook_41 rfl ?_
  refine P_if_eq 63 d_M_hook_42 (by decide) (fun c42 => False.elim (nI_ne0 h3 (Nat.lt_of_le_of_lt (mhd_le _ _ _ _) (by decide)) c42)) (fun c42 => ?_)
  refine P_aload_n d_M_hook_45 rfl ?_
  refine P_iload_n d_M_hook_46 rfl ?_
  refine P_iload_n d_M_hook_47 rfl ?_
  refine cl_M_overlaps (c_M_overlaps0 _ _ N _ _ hN hL hC hG hv) d_M_hook_48 (Nat.le_of_ble_eq_true rfl) ?_
  refine P_top (y := 0) (rfl) ?_
  refine P_if_ne 63 d_M_hook_51 (by decide) (fun hc => absurd hc (by decide)) (fun _ => ?_)
  refine P_aload_n d_M_hook_54 rfl ?_
  refine P_iload_n d_M_hook_55 rfl ?_
  refine P_iload_n d_M_hook_56 rfl ?_
  refine cl_M_isEntered (c_M_isEntered1 _ _ N _ _ hN hL hC hG (by have := nI_pos' (n := a) (by omega); grind) he) d_M_hook_57 (Nat.le_of_ble_eq_true rfl) ?_
  refine P_top (y := 1) (rfl) ?_
  refine P_if_eq 66 d_M_hook_60 (by decide) (fun hc => absurd hc (by decide)) (fun _ => ?_)
  refine P_bipush (v := (-4)) d_M_hook_63 (by decide) ?_
  exact P_iret d_M_hook_65 (by rfl) (by rfl)
set_option maxHeartbeats 400000 in
set_option maxRecDepth 10000 in
theorem c_M_hook_ok (σ μ : SG) (a N : Nat) (hN : N ≤ 64) (hL : μ 16 2 = nI N) (hC : Chn (μ 17) (μ 18) N) (hG : Gap (μ 17) (μ 18) N) (ha : a < 64) (h1 : μ 21 a = 0) (h2 : ¬ cntM μ 64 = 4) (h3 : 0 < mhd (μ 17) (μ 18) N a) (hv : ∀ y, y < 64 → ¬ Ov μ N (nI a) (nI (mhd (μ 17) (μ 18) N a)) y) (he : ∀ y, y < N → ¬ En (μ 17) (μ 18) (nI a) (nI (mhd (μ 17) (μ 18) N a)) y) : CF k_M_hook [.inr 16, .inl (nI a)] (σ, μ) (some (nI (mhd (μ 17) (μ 18) N a))) (σ, ss (ss μ 21 a 1) 22 a 0) := by
  refine CF.of rfl rfl (Nat.le_of_ble_eq_true rfl) (L := [some (.inr 16), some (.inl (nI a)), none]) rfl ?_
  refine P_iload_n d_M_hook_0 rfl ?_
  refine P_if_lt 10 d_M_hook_1 (by decide) (fun c1 => False.elim (nI_pos (by omega) c1)) (fun c1 => ?_)
  refine P_iload_n d_M_hook_4 rfl ?_
  refine P_bipush (v := 63) d_M_hook_5 (by decide) ?_
  refine P_icmp_le 12 d_M_hook_7 (by decide) (fun c7 => ?_) (fun c7 => False.elim (c7 (nI_le (b := 63) (by omega) (by decide))))
  refine P_aload_n d_M_hook_12 rfl ?_
  refine g_M_hooked d_M_hook_13 ?_
  refine P_iload_n d_M_hook_16 rfl ?_
  refine Q_zald ar_21 (vp_in_nI ha (by decide)) d_M_hook_17 ?_
  refine P_top (y := μ 21 a) (by rw [nI_clamp (by omega)]) ?_
  refine P_if_eq 24 d_M_hook_18 (by decide) (fun c18 => ?_) (fun c18 => False.elim (c18 h1))
  refine P_aload_n d_M_hook_24 rfl ?_
  refine cl_M_hooks (c_M_hooks _ _) d_M_hook_25 (Nat.le_of_ble_eq_true rfl) ?_
  refine P_iconst (v := 4) d_M_hook_28 (by decide) ?_
  refine P_icmp_ne 35 d_M_hook_29 (by decide) (fun c29 => ?_) (fun c29 => False.elim (h2 c29))
  refine P_aload_n d_M_hook_35 rfl ?_
  refine P_iload_n d_M_hook_36 rfl ?_
  refine cl_M_headOf (c_M_headOf _ _ a N hN hL hC hG ha) d_M_hook_37 (Nat.le_of_ble_eq_true rfl) ?_
  refine P_istore_n (L' := [some (.inr 16), some (.inl _), some (.inl _)]) d_M_hook_40 (by decide) rfl ?_
  refine P_iload_n d_M_hook_41 rfl ?_
  refine P_if_eq 63 d_M_hook_42 (by decide) (fun c42 => False.elim (nI_ne0 h3 (Nat.lt_of_le_of_lt (mhd_le _ _ _ _) (by decide)) c42)) (fun c42 => ?_)
  refine P_aload_n d_M_hook_45 rfl ?_
  refine P_iload_n d_M_hook_46 rfl ?_
  refine P_iload_n d_M_hook_47 rfl ?_
  refine cl_M_overlaps (c_M_overlaps0 _ _ N _ _ hN hL hC hG hv) d_M_hook_48 (Nat.le_of_ble_eq_true rfl) ?_
  refine P_top (y := 0) (rfl) ?_
  refine P_if_ne 63 d_M_hook_51 (by decide) (fun hc => absurd hc (by decide)) (fun _ => ?_)
  refine P_aload_n d_M_hook_54 rfl ?_
  refine P_iload_n d_M_hook_55 rfl ?_
  refine P_iload_n d_M_hook_56 rfl ?_
  refine cl_M_isEntered (c_M_isEntered0 _ _ N _ _ hN hL hC hG (by have := nI_pos' (n := a) (by omega); grind) he) d_M_hook_57 (Nat.le_of_ble_eq_true rfl) ?_
  refine P_top (y := 0) (rfl) ?_
  refine P_if_eq 66 d_M_hook_60 (by decide) (fun _ => ?_) (fun hc => absurd hc (by decide))
  refine P_aload_n d_M_hook_66 rfl ?_
  refine g_M_hooked d_M_hook_67 ?_
  refine P_iload_n d_M_hook_70 rfl ?_
  refine P_iconst (v := 1) d_M_hook_71 (by decide) ?_
  refine Q_zast (y := 1) ar_21 (vp_in_nI ha (by decide)) (by rfl) d_M_hook_72 ?_
  refine P_aload_n d_M_hook_73 rfl ?_
  refine g_M_count d_M_hook_74 ?_
  refine P_iload_n d_M_hook_77 rfl ?_
  refine P_iconst (v := 0) d_M_hook_78 (by decide) ?_
  refine Q_iast ar_22 (vp_in_nI ha (by decide)) d_M_hook_79 ?_
  refine PW_S (σ2 := (σ, ss (ss μ 21 a 1) 22 a 0)) (by rw [nI_clamp (by omega)]) ?_
  refine P_iload_n d_M_hook_80 rfl ?_
  exact P_iret d_M_hook_81 (by rfl) (by rfl)
end
section
/-- the operands that the reference uses as places -/
def Opn (P S : Nat → Int32) (N : Nat) : Prop := ∀ x, x < N → ¬ S x = 0 → (P x = 3 → vp_in (P (x + 1) >>> ((2 : Int32) &&& 31)) 4) ∧ (P x = 5 → vp_in (P (x + 1)) 4)
def m_goOn (μ : SG) (x : Nat) (k nx : Int32) : SG :=
  if k = 0 then ss μ 16 9 1
  else if k = 7 then (if μ 16 7 = 0 then ss μ 16 9 1 else ss (ss μ 16 7 (μ 16 7 - 1)) 16 8 (μ 23 (μ 16 7 - 1).toNatClampNeg))
  else if k = 6 then (if μ 16 7 = 8 then ss μ 16 9 3 else ss (ss (ss μ 23 (μ 16 7).toNatClampNeg nx) 16 7 (μ 16 7 + 1)) 16 8 (tgI (μ 17) x))
  else if k = 5 then (if μ 20 (μ 17 (x + 1)).toNatClampNeg = 0 then ss μ 16 8 nx else ss μ 16 8 (tgI (μ 17) x))
  else if k = 4 then ss μ 16 8 (tgI (μ 17) x) else ss μ 16 8 nx
def m_cnt (μ : SG) (x : Nat) : SG := if μ 21 x = 0 then μ else ss μ 22 x (μ 22 x + 1)
def m_op (μ : SG) (x : Nat) : Int32 := if ln (μ 17 x) = 1 then 0 else μ 17 (x + 1)
def m_chg (μ : SG) (x : Nat) : SG :=
  if μ 17 x = 1 then ss μ 20 (m_op μ x &&& 3).toNatClampNeg (μ 20 (m_op μ x &&& 3).toNatClampNeg + 1)
  else if μ 17 x = 2 then ss μ 20 (m_op μ x &&& 3).toNatClampNeg (μ 20 (m_op μ x &&& 3).toNatClampNeg - 1)
  else if μ 17 x = 3 then ss μ 20 (m_op μ x &&& 3).toNatClampNeg (μ 20 (m_op μ x >>> ((2 : Int32) &&& 31)).toNatClampNeg)
  else if μ 17 x = 8 then ss μ 20 (m_op μ x &&& 3).toNatClampNeg (nI (x + ln (μ 17 x)))
  else μ
def m_exec (μ : SG) (x : Nat) : SG := m_goOn (m_chg (m_cnt μ x) x) x (μ 17 x) (nI (x + ln (μ 17 x)))
set_option maxHeartbeats 400000 in
set_option maxRecDepth 10000 in
theorem c_M_goOn (σ μ : SG) (k nx : Int32) (x N : Nat) (hN : N ≤ 64) (hL : μ 16 2 = nI N) (hC : Chn (μ 17) (μ 18) N) (hG : Gap (μ 17) (μ 18) N) (hx : x < N) (hs : ¬ μ 18 x = 0) (hat : μ 16 8 = nI x) (h0 : ¬ μ 16 7 < 0) (h8 : μ 16 7 ≤ 8) (h5 : k = 5 → vp_in (μ 17 (x + 1)) 4 ∧ x + 1 < 64) : CF k_M_goOn [.inr 16, .inl k, .inl nx] (σ, μ) none (σ, m_goOn μ x k nx) := by
  refine CF.of rfl rfl (Nat.le_of_ble_eq_true rfl) (L := [some (.inr 16), some (.inl k), some (.inl nx), none]) rfl ?_
  refine P_aload_n d_M_goOn_0 rfl ?_
  refine P_aload_n d_M_goOn_1 rfl ?_
  refine g_M_at d_M_goOn_2 ?_
  refine P_top (y := nI x) (hat) ?_
  refine cl_M_targetOf (c_M_targetOf _ _ x N hN hL hC hG hx hs) d_M_goOn_5 (Nat.le_of_ble_eq_true rfl) ?_
  refine P_istore_n (L' := [some (.inr 16), some (.inl _), some (.inl _), some (.inl _)]) d_M_goOn_8 (by decide) rfl ?_
  refine P_iload_n d_M_goOn_9 rfl ?_
  refine P_if_eq 26 d_M_goOn_10 (by decide) (fun c10 => ?_) (fun c10 => ?_)
  · refine P_aload_n d_M_goOn_26 rfl ?_
    refine P_iconst (v := 1) d_M_goOn_27 (by decide) ?_
    refine s_M_ending d_M_goOn_28 ?_
    refine P_goto 173 d_M_goOn_31 (by decide) ?_
    exact P_vret d_M_goOn_173 (by rfl) (by simp [m_goOn, *] <;> rfl)
  · refine P_iload_n d_M_goOn_13 rfl ?_
    refine P_bipush (v := 7) d_M_goOn_14 (by decide) ?_
    refine P_icmp_ne 34 d_M_goOn_16 (by decide) (fun c16 => ?_) (fun c16 => ?_)
    · refine P_iload_n d_M_goOn_34 rfl ?_
      refine P_bipush (v := 7) d_M_goOn_35 (by decide) ?_
      refine P_icmp_ne 66 d_M_goOn_37 (by decide) (fun c37 => ?_) (fun c37 => False.elim (c16 c37))
      refine P_iload_n d_M_goOn_66 rfl ?_
      refine P_bipush (v := 6) d_M_goOn_67 (by decide) ?_
      refine P_icmp_ne 89 d_M_goOn_69 (by decide) (fun c69 => ?_) (fun c69 => ?_)
      · refine P_iload_n d_M_goOn_89 rfl ?_
        refine P_bipush (v := 6) d_M_goOn_90 (by decide) ?_
        refine P_icmp_ne 123 d_M_goOn_92 (by decide) (fun c92 => ?_) (fun c92 => False.elim (c69 c92))
        refine P_iload_n d_M_goOn_123 rfl ?_
        refine P_iconst (v := 5) d_M_goOn_124 (by decide) ?_
        refine P_icmp_ne 159 d_M_goOn_125 (by decide) (fun c125 => ?_) (fun c125 => ?_)
        · refine P_aload_n d_M_goOn_159 rfl ?_
          refine P_iload_n d_M_goOn_160 rfl ?_
          refine P_iconst (v := 4) d_M_goOn_161 (by decide) ?_
          refine P_icmp_ne 169 d_M_goOn_162 (by decide) (fun c162 => ?_) (fun c162 => ?_)
          · refine P_iload_n d_M_goOn_169 rfl ?_
            refine s_M_at d_M_goOn_170 ?_
            exact P_vret d_M_goOn_173 (by rfl) (by simp [m_goOn, *] <;> rfl)
          · refine P_iload_n d_M_goOn_165 rfl ?_
            refine P_goto 170 d_M_goOn_166 (by decide) ?_
            refine s_M_at d_M_goOn_170 ?_
            exact P_vret d_M_goOn_173 (by rfl) (by simp [m_goOn, *] <;> rfl)
        · refine P_aload_n d_M_goOn_128 rfl ?_
          refine P_aload_n d_M_goOn_129 rfl ?_
          refine g_M_registers d_M_goOn_130 ?_
          refine P_aload_n d_M_goOn_133 rfl ?_
          refine g_M_code d_M_goOn_134 ?_
          refine P_aload_n d_M_goOn_137 rfl ?_
          refine g_M_at d_M_goOn_138 ?_
          refine P_top (y := nI x) (hat) ?_
          refine P_iconst (v := 1) d_M_goOn_141 (by decide) ?_
          refine P_iadd d_M_goOn_142 ?_
          refine P_top (y := nI (x + 1)) (nI_1 x) ?_
          refine Q_iald ar_17 (vp_in_nI (h5 c125).2 (by decide)) d_M_goOn_143 ?_
          refine P_top (y := μ 17 (x + 1)) (by rw [nI_clamp (by have := (h5 c125).2; omega)]) ?_
          refine Q_iald ar_20 ((h5 c125).1) d_M_goOn_144 ?_
          refine P_if_eq 152 d_M_goOn_145 (by decide) (fun c145 => ?_) (fun c145 => ?_)
          · refine P_iload_n d_M_goOn_152 rfl ?_
            refine s_M_at d_M_goOn_153 ?_
            refine P_goto 173 d_M_goOn_156 (by decide) ?_
            exact P_vret d_M_goOn_173 (by rfl) (by simp [m_goOn, *] <;> rfl)
          · refine P_iload_n d_M_goOn_148 rfl ?_
            refine P_goto 153 d_M_goOn_149 (by decide) ?_
            refine s_M_at d_M_goOn_153 ?_
            refine P_goto 173 d_M_goOn_156 (by decide) ?_
            exact P_vret d_M_goOn_173 (by rfl) (by simp [m_goOn, *] <;> rfl)
      · refine P_aload_n d_M_goOn_72 rfl ?_
        refine g_M_held d_M_goOn_73 ?_
        refine P_bipush (v := 8) d_M_goOn_76 (by decide) ?_
        refine P_icmp_ne 89 d_M_goOn_78 (by decide) (fun c78 => ?_) (fun c78 => ?_)
        · refine P_iload_n d_M_goOn_89 rfl ?_
          refine P_bipush (v := 6) d_M_goOn_90 (by decide) ?_
          refine P_icmp_ne 123 d_M_goOn_92 (by decide) (fun c92 => False.elim (c92 c69)) (fun c92 => ?_)
          refine P_aload_n d_M_goOn_95 rfl ?_
          refine g_M_returns d_M_goOn_96 ?_
          refine P_aload_n d_M_goOn_99 rfl ?_
          refine g_M_held d_M_goOn_100 ?_
          refine P_iload_n d_M_goOn_103 rfl ?_
          refine Q_iast ar_23 (vp_of 8 rfl h0 (by grind)) d_M_goOn_104 ?_
          refine P_aload_n d_M_goOn_105 rfl ?_
          refine P_dup d_M_goOn_106 ?_
          refine g_M_held d_M_goOn_107 ?_
          refine P_iconst (v := 1) d_M_goOn_110 (by decide) ?_
          refine P_iadd d_M_goOn_111 ?_
          refine s_M_held d_M_goOn_112 ?_
          refine P_aload_n d_M_goOn_115 rfl ?_
          refine P_iload_n d_M_goOn_116 rfl ?_
          refine s_M_at d_M_goOn_117 ?_
          refine P_goto 173 d_M_goOn_120 (by decide) ?_
          exact P_vret d_M_goOn_173 (by rfl) (by simp [m_goOn, *] <;> rfl)
        · refine P_aload_n d_M_goOn_81 rfl ?_
          refine P_iconst (v := 3) d_M_goOn_82 (by decide) ?_
          refine s_M_ending d_M_goOn_83 ?_
          refine P_goto 173 d_M_goOn_86 (by decide) ?_
          exact P_vret d_M_goOn_173 (by rfl) (by simp [m_goOn, *] <;> rfl)
    · refine P_aload_n d_M_goOn_19 rfl ?_
      refine g_M_held d_M_goOn_20 ?_
      refine P_if_ne 34 d_M_goOn_23 (by decide) (fun c23 => ?_) (fun c23 => ?_)
      · refine P_iload_n d_M_goOn_34 rfl ?_
        refine P_bipush (v := 7) d_M_goOn_35 (by decide) ?_
        refine P_icmp_ne 66 d_M_goOn_37 (by decide) (fun c37 => False.elim (c37 c16)) (fun c37 => ?_)
        refine P_aload_n d_M_goOn_40 rfl ?_
        refine P_dup d_M_goOn_41 ?_
        refine g_M_held d_M_goOn_42 ?_
        refine P_iconst (v := 1) d_M_goOn_45 (by decide) ?_
        refine P_isub d_M_goOn_46 ?_
        refine s_M_held d_M_goOn_47 ?_
        refine P_aload_n d_M_goOn_50 rfl ?_
        refine P_aload_n d_M_goOn_51 rfl ?_
        refine g_M_returns d_M_goOn_52 ?_
        refine P_aload_n d_M_goOn_55 rfl ?_
        refine g_M_held d_M_goOn_56 ?_
        refine Q_iald ar_23 (vp_of (i := μ 16 7 - 1) 8 rfl (by grind) (by grind)) d_M_goOn_59 ?_
        refine s_M_at d_M_goOn_60 ?_
        refine P_goto 173 d_M_goOn_63 (by decide) ?_
        exact P_vret d_M_goOn_173 (by rfl) (by simp [m_goOn, *] <;> rfl)
      · refine P_aload_n d_M_goOn_26 rfl ?_
        refine P_iconst (v := 1) d_M_goOn_27 (by decide) ?_
        refine s_M_ending d_M_goOn_28 ?_
        refine P_goto 173 d_M_goOn_31 (by decide) ?_
        exact P_vret d_M_goOn_173 (by rfl) (by simp [m_goOn, *] <;> rfl)
theorem cnt_17 (μ : SG) (x : Nat) : (m_cnt μ x) 17 = μ 17 := by unfold m_cnt; split <;> rfl
theorem cnt_o (μ : SG) (x c : Nat) (hc : ¬ c = 22) : (m_cnt μ x) c = μ c := by unfold m_cnt; split; rfl; unfold ss; rw [if_neg hc]
theorem chg_o (μ : SG) (x c : Nat) (hc : ¬ c = 20) : (m_chg μ x) c = μ c := by
  unfold m_chg
  split; unfold ss; rw [if_neg hc]
  split; unfold ss; rw [if_neg hc]
  split; unfold ss; rw [if_neg hc]
  split; unfold ss; rw [if_neg hc]
  rfl
theorem op_o (μ : SG) (x : Nat) : m_op (m_cnt μ x) x = m_op μ x := by unfold m_op; rw [cnt_o _ _ _ (by decide)]
theorem ln5 {μ : SG} {x N : Nat} (h : x + ln (μ 17 x) ≤ N) (hN : N ≤ 64) (q : μ 17 x = 5) : x + 1 < 64 := by
  have : ln (μ 17 x) = 3 := by rw [q]; rfl
  omega
set_option maxHeartbeats 1000000 in
set_option maxRecDepth 10000 in
theorem c_M_execute (σ μ : SG) (x N : Nat) (hN : N ≤ 64) (hL : μ 16 2 = nI N) (hC : Chn (μ 17) (μ 18) N) (hG : Gap (μ 17) (μ 18) N) (hO : Opn (μ 17) (μ 18) N) (hx : x < N) (hs : ¬ μ 18 x = 0) (hat : μ 16 8 = nI x) (h0 : ¬ μ 16 7 < 0) (h8 : μ 16 7 ≤ 8) : CF k_M_execute [.inr 16] (σ, μ) none (σ, m_exec μ x) := by
  have i1 := ln_in (μ 17 x)
  have hd1 := hC x hx hs
  refine CF.of rfl rfl (Nat.le_of_ble_eq_true rfl) (L := [some (.inr 16), none, none, none, none]) rfl ?_
  refine P_aload_n d_M_execute_0 rfl ?_
  refine g_M_hooked d_M_execute_1 ?_
  refine P_aload_n d_M_execute_4 rfl ?_
  refine g_M_at d_M_execute_5 ?_
  refine P_top (y := nI x) (hat) ?_
  refine Q_zald ar_21 (vp_in_nI (by omega) (by decide)) d_M_execute_8 ?_
  refine P_top (y := μ 21 x) (by rw [nI_clamp (by omega)]) ?_
  refine P_if_eq 25 d_M_execute_9 (by decide) (fun c9 => ?_) (fun c9 => ?_)
  · refine PW_S (σ2 := (σ, m_cnt μ x)) (by unfold m_cnt; first | rw [if_pos c9] | (rw [if_neg c9, nI_clamp (by omega)])) ?_
    refine P_aload_n d_M_execute_25 rfl ?_
    refine g_M_code d_M_execute_26 ?_
    refine P_aload_n d_M_execute_29 rfl ?_
    refine g_M_at d_M_execute_30 ?_
    refine P_top (y := nI x) (by rw [cnt_o _ _ _ (by decide)]; exact hat) ?_
    refine Q_iald ar_17 (vp_in_nI (by omega) (by decide)) d_M_execute_33 ?_
    refine P_top (y := μ 17 x) (by rw [nI_clamp (by omega), cnt_o _ _ _ (by decide)]) ?_
    refine P_istore_n (L' := [some (.inr 16), some (.inl _), none, none, none]) d_M_execute_34 (by decide) rfl ?_
    refine P_aload_n d_M_execute_35 rfl ?_
    refine P_aload_n d_M_execute_36 rfl ?_
    refine g_M_at d_M_execute_37 ?_
    refine P_top (y := nI x) (by rw [cnt_o _ _ _ (by decide)]; exact hat) ?_
    refine cl_M_nextOf (c_M_nextOf _ (m_cnt μ x) x N hN (by rw [cnt_o _ _ _ (by decide)]; exact hL) (by rw [cnt_o _ _ _ (by decide), cnt_o _ _ _ (by decide)]; exact hC) (by rw [cnt_o _ _ _ (by decide), cnt_o _ _ _ (by decide)]; exact hG) hx (by rw [cnt_o _ _ _ (by decide)]; exact hs)) d_M_execute_40 (Nat.le_of_ble_eq_true rfl) ?_
    refine P_top (y := nI (x + ln (μ 17 x))) (by rw [cnt_o _ _ _ (by decide)]) ?_
    refine P_istore_n (L' := [some (.inr 16), some (.inl _), some (.inl _), none, none]) d_M_execute_43 (by decide) rfl ?_
    refine P_iload_n d_M_execute_44 rfl ?_
    refine P_aload_n d_M_execute_45 rfl ?_
    refine g_M_at d_M_execute_46 ?_
    refine P_top (y := nI x) (by rw [cnt_o _ _ _ (by decide)]; exact hat) ?_
    refine P_isub d_M_execute_49 ?_
    refine P_top (y := nI (ln (μ 17 x))) (by rw [pk_sub (by omega)]; congr 1; omega) ?_
    refine P_iconst (v := 1) d_M_execute_50 (by decide) ?_
    refine P_icmp_ne 58 d_M_execute_51 (by decide) (fun c51 => ?_) (fun c51 => ?_)
    · have l2 : 1 < ln (μ 17 x) := by
        rcases Nat.lt_or_ge 1 (ln (μ 17 x)) with q | q
        · exact q
        · exact absurd (by rw [show ln (μ 17 x) = 1 by omega]; rfl) c51
      refine P_aload_n d_M_execute_58 rfl ?_
      refine g_M_code d_M_execute_59 ?_
      refine P_aload_n d_M_execute_62 rfl ?_
      refine g_M_at d_M_execute_63 ?_
      refine P_top (y := nI x) (by rw [cnt_o _ _ _ (by decide)]; exact hat) ?_
      refine P_iconst (v := 1) d_M_execute_66 (by decide) ?_
      refine P_iadd d_M_execute_67 ?_
      refine P_top (y := nI (x + 1)) (nI_1 x) ?_
      refine Q_iald ar_17 (vp_in_nI (by omega) (by decide)) d_M_execute_68 ?_
      refine P_top (y := μ 17 (x + 1)) (by rw [nI_clamp (by omega), cnt_o _ _ _ (by decide)]) ?_
      refine P_top (y := m_op (m_cnt μ x) x) (by rw [op_o]; unfold m_op; rw [if_neg (by omega)]) ?_
      refine P_istore_n (L' := [some (.inr 16), some (.inl _), some (.inl _), some (.inl _), none]) d_M_execute_69 (by decide) rfl ?_
      refine P_iload_n d_M_execute_70 rfl ?_
      refine P_iconst (v := 3) d_M_execute_71 (by decide) ?_
      refine P_iand d_M_execute_72 ?_
      refine P_istore (L' := [some (.inr 16), some (.inl _), some (.inl _), some (.inl _), some (.inl _)]) d_M_execute_73 (by decide) rfl ?_
      refine P_iload_n d_M_execute_75 rfl ?_
      refine P_iconst (v := 1) d_M_execute_76 (by decide) ?_
      refine P_icmp_ne 99 d_M_execute_77 (by decide) (fun c77 => ?_) (fun c77 => ?_)
      · refine P_iload_n d_M_execute_99 rfl ?_
        refine P_iconst (v := 2) d_M_execute_100 (by decide) ?_
        refine P_icmp_ne 123 d_M_execute_101 (by decide) (fun c101 => ?_) (fun c101 => ?_)
        · refine P_iload_n d_M_execute_123 rfl ?_
          refine P_iconst (v := 3) d_M_execute_124 (by decide) ?_
          refine P_icmp_ne 146 d_M_execute_125 (by decide) (fun c125 => ?_) (fun c125 => ?_)
          · refine P_iload_n d_M_execute_146 rfl ?_
            refine P_bipush (v := 8) d_M_execute_147 (by decide) ?_
            refine P_icmp_ne 160 d_M_execute_149 (by decide) (fun c149 => ?_) (fun c149 => ?_)
            · refine PW_S (σ2 := (σ, m_chg (m_cnt μ x) x)) (by
                unfold m_chg
                rw [show (m_cnt μ x) 17 x = μ 17 x by rw [cnt_o _ _ _ (by decide)]]
                first | rw [if_pos c77] | rw [if_neg c77, if_pos c101] | rw [if_neg c77, if_neg c101, if_pos c125] | rw [if_neg c77, if_neg c101, if_neg c125, if_pos c149] | rw [if_neg c77, if_neg c101, if_neg c125, if_neg c149]) ?_
              refine P_aload_n d_M_execute_160 rfl ?_
              refine P_iload_n d_M_execute_161 rfl ?_
              refine P_iload_n d_M_execute_162 rfl ?_
              refine cl_M_goOn (c_M_goOn _ (m_chg (m_cnt μ x) x) _ _ x N hN (by rw [chg_o _ _ _ (by decide), cnt_o _ _ _ (by decide)]; exact hL) (by rw [chg_o _ _ _ (by decide), cnt_o _ _ _ (by decide), chg_o _ _ _ (by decide), cnt_o _ _ _ (by decide)]; exact hC) (by rw [chg_o _ _ _ (by decide), cnt_o _ _ _ (by decide), chg_o _ _ _ (by decide), cnt_o _ _ _ (by decide)]; exact hG) hx (by rw [chg_o _ _ _ (by decide), cnt_o _ _ _ (by decide)]; exact hs) (by rw [chg_o _ _ _ (by decide), cnt_o _ _ _ (by decide)]; exact hat) (by rw [chg_o _ _ _ (by decide), cnt_o _ _ _ (by decide)]; exact h0) (by rw [chg_o _ _ _ (by decide), cnt_o _ _ _ (by decide)]; exact h8) (fun q => by rw [chg_o _ _ _ (by decide), cnt_o _ _ _ (by decide)]; exact ⟨(hO x hx hs).2 q, ln5 hd1.1 hN q⟩)) d_M_execute_163 (Nat.le_of_ble_eq_true rfl) ?_
              exact P_vret d_M_execute_166 (by rfl) (by rfl)
            · refine P_aload_n d_M_execute_152 rfl ?_
              refine g_M_registers d_M_execute_153 ?_
              refine P_iload d_M_execute_156 rfl ?_
              refine P_iload_n d_M_execute_158 rfl ?_
              refine Q_iast ar_20 (vp_and3 _) d_M_execute_159 ?_
              refine PW_S (σ2 := (σ, m_chg (m_cnt μ x) x)) (by
                unfold m_chg
                rw [show (m_cnt μ x) 17 x = μ 17 x by rw [cnt_o _ _ _ (by decide)]]
                first | rw [if_pos c77] | rw [if_neg c77, if_pos c101] | rw [if_neg c77, if_neg c101, if_pos c125] | rw [if_neg c77, if_neg c101, if_neg c125, if_pos c149] | rw [if_neg c77, if_neg c101, if_neg c125, if_neg c149]) ?_
              refine P_aload_n d_M_execute_160 rfl ?_
              refine P_iload_n d_M_execute_161 rfl ?_
              refine P_iload_n d_M_execute_162 rfl ?_
              refine cl_M_goOn (c_M_goOn _ (m_chg (m_cnt μ x) x) _ _ x N hN (by rw [chg_o _ _ _ (by decide), cnt_o _ _ _ (by decide)]; exact hL) (by rw [chg_o _ _ _ (by decide), cnt_o _ _ _ (by decide), chg_o _ _ _ (by decide), cnt_o _ _ _ (by decide)]; exact hC) (by rw [chg_o _ _ _ (by decide), cnt_o _ _ _ (by decide), chg_o _ _ _ (by decide), cnt_o _ _ _ (by decide)]; exact hG) hx (by rw [chg_o _ _ _ (by decide), cnt_o _ _ _ (by decide)]; exact hs) (by rw [chg_o _ _ _ (by decide), cnt_o _ _ _ (by decide)]; exact hat) (by rw [chg_o _ _ _ (by decide), cnt_o _ _ _ (by decide)]; exact h0) (by rw [chg_o _ _ _ (by decide), cnt_o _ _ _ (by decide)]; exact h8) (fun q => by rw [chg_o _ _ _ (by decide), cnt_o _ _ _ (by decide)]; exact ⟨(hO x hx hs).2 q, ln5 hd1.1 hN q⟩)) d_M_execute_163 (Nat.le_of_ble_eq_true rfl) ?_
              exact P_vret d_M_execute_166 (by rfl) (by rfl)
          · have ho3 : vp_in (m_op (m_cnt μ x) x >>> ((2 : Int32) &&& 31)) 4 := by
              rw [op_o]
              unfold m_op
              rw [if_neg (by rw [c125]; decide)]
              exact (hO x hx hs).1 c125
            refine P_aload_n d_M_execute_128 rfl ?_
            refine g_M_registers d_M_execute_129 ?_
            refine P_iload d_M_execute_132 rfl ?_
            refine P_aload_n d_M_execute_134 rfl ?_
            refine g_M_registers d_M_execute_135 ?_
            refine P_iload_n d_M_execute_138 rfl ?_
            refine P_iconst (v := 2) d_M_execute_139 (by decide) ?_
            refine P_ishr d_M_execute_140 ?_
            refine Q_iald ar_20 (ho3) d_M_execute_141 ?_
            refine Q_iast ar_20 (vp_and3 _) d_M_execute_142 ?_
            refine P_goto 160 d_M_execute_143 (by decide) ?_
            refine PW_S (σ2 := (σ, m_chg (m_cnt μ x) x)) (by
              unfold m_chg
              rw [show (m_cnt μ x) 17 x = μ 17 x by rw [cnt_o _ _ _ (by decide)]]
              first | rw [if_pos c77] | rw [if_neg c77, if_pos c101] | rw [if_neg c77, if_neg c101, if_pos c125] | rw [if_neg c77, if_neg c101, if_neg c125, if_pos c149] | rw [if_neg c77, if_neg c101, if_neg c125, if_neg c149]) ?_
            refine P_aload_n d_M_execute_160 rfl ?_
            refine P_iload_n d_M_execute_161 rfl ?_
            refine P_iload_n d_M_execute_162 rfl ?_
            refine cl_M_goOn (c_M_goOn _ (m_chg (m_cnt μ x) x) _ _ x N hN (by rw [chg_o _ _ _ (by decide), cnt_o _ _ _ (by decide)]; exact hL) (by rw [chg_o _ _ _ (by decide), cnt_o _ _ _ (by decide), chg_o _ _ _ (by decide), cnt_o _ _ _ (by decide)]; exact hC) (by rw [chg_o _ _ _ (by decide), cnt_o _ _ _ (by decide), chg_o _ _ _ (by decide), cnt_o _ _ _ (by decide)]; exact hG) hx (by rw [chg_o _ _ _ (by decide), cnt_o _ _ _ (by decide)]; exact hs) (by rw [chg_o _ _ _ (by decide), cnt_o _ _ _ (by decide)]; exact hat) (by rw [chg_o _ _ _ (by decide), cnt_o _ _ _ (by decide)]; exact h0) (by rw [chg_o _ _ _ (by decide), cnt_o _ _ _ (by decide)]; exact h8) (fun q => by rw [chg_o _ _ _ (by decide), cnt_o _ _ _ (by decide)]; exact ⟨(hO x hx hs).2 q, ln5 hd1.1 hN q⟩)) d_M_execute_163 (Nat.le_of_ble_eq_true rfl) ?_
            exact P_vret d_M_execute_166 (by rfl) (by rfl)
        · refine P_aload_n d_M_execute_104 rfl ?_
          refine g_M_registers d_M_execute_105 ?_
          refine P_iload d_M_execute_108 rfl ?_
          refine P_aload_n d_M_execute_110 rfl ?_
          refine g_M_registers d_M_execute_111 ?_
          refine P_iload d_M_execute_114 rfl ?_
          refine Q_iald ar_20 (vp_and3 _) d_M_execute_116 ?_
          refine P_iconst (v := 1) d_M_execute_117 (by decide) ?_
          refine P_isub d_M_execute_118 ?_
          refine Q_iast ar_20 (vp_and3 _) d_M_execute_119 ?_
          refine P_goto 160 d_M_execute_120 (by decide) ?_
          refine PW_S (σ2 := (σ, m_chg (m_cnt μ x) x)) (by
            unfold m_chg
            rw [show (m_cnt μ x) 17 x = μ 17 x by rw [cnt_o _ _ _ (by decide)]]
            first | rw [if_pos c77] | rw [if_neg c77, if_pos c101] | rw [if_neg c77, if_neg c101, if_pos c125] | rw [if_neg c77, if_neg c101, if_neg c125, if_pos c149] | rw [if_neg c77, if_neg c101, if_neg c125, if_neg c149]) ?_
          refine P_aload_n d_M_execute_160 rfl ?_
          refine P_iload_n d_M_execute_161 rfl ?_
          refine P_iload_n d_M_execute_162 rfl ?_
          refine cl_M_goOn (c_M_goOn _ (m_chg (m_cnt μ x) x) _ _ x N hN (by rw [chg_o _ _ _ (by decide), cnt_o _ _ _ (by decide)]; exact hL) (by rw [chg_o _ _ _ (by decide), cnt_o _ _ _ (by decide), chg_o _ _ _ (by decide), cnt_o _ _ _ (by decide)]; exact hC) (by rw [chg_o _ _ _ (by decide), cnt_o _ _ _ (by decide), chg_o _ _ _ (by decide), cnt_o _ _ _ (by decide)]; exact hG) hx (by rw [chg_o _ _ _ (by decide), cnt_o _ _ _ (by decide)]; exact hs) (by rw [chg_o _ _ _ (by decide), cnt_o _ _ _ (by decide)]; exact hat) (by rw [chg_o _ _ _ (by decide), cnt_o _ _ _ (by decide)]; exact h0) (by rw [chg_o _ _ _ (by decide), cnt_o _ _ _ (by decide)]; exact h8) (fun q => by rw [chg_o _ _ _ (by decide), cnt_o _ _ _ (by decide)]; exact ⟨(hO x hx hs).2 q, ln5 hd1.1 hN q⟩)) d_M_execute_163 (Nat.le_of_ble_eq_true rfl) ?_
          exact P_vret d_M_execute_166 (by rfl) (by rfl)
      · refine P_aload_n d_M_execute_80 rfl ?_
        refine g_M_registers d_M_execute_81 ?_
        refine P_iload d_M_execute_84 rfl ?_
        refine P_aload_n d_M_execute_86 rfl ?_
        refine g_M_registers d_M_execute_87 ?_
        refine P_iload d_M_execute_90 rfl ?_
        refine Q_iald ar_20 (vp_and3 _) d_M_execute_92 ?_
        refine P_iconst (v := 1) d_M_execute_93 (by decide) ?_
        refine P_iadd d_M_execute_94 ?_
        refine Q_iast ar_20 (vp_and3 _) d_M_execute_95 ?_
        refine P_goto 160 d_M_execute_96 (by decide) ?_
        refine PW_S (σ2 := (σ, m_chg (m_cnt μ x) x)) (by
          unfold m_chg
          rw [show (m_cnt μ x) 17 x = μ 17 x by rw [cnt_o _ _ _ (by decide)]]
          first | rw [if_pos c77] | rw [if_neg c77, if_pos c101] | rw [if_neg c77, if_neg c101, if_pos c125] | rw [if_neg c77, if_neg c101, if_neg c125, if_pos c149] | rw [if_neg c77, if_neg c101, if_neg c125, if_neg c149]) ?_
        refine P_aload_n d_M_execute_160 rfl ?_
        refine P_iload_n d_M_execute_161 rfl ?_
        refine P_iload_n d_M_execute_162 rfl ?_
        refine cl_M_goOn (c_M_goOn _ (m_chg (m_cnt μ x) x) _ _ x N hN (by rw [chg_o _ _ _ (by decide), cnt_o _ _ _ (by decide)]; exact hL) (by rw [chg_o _ _ _ (by decide), cnt_o _ _ _ (by decide), chg_o _ _ _ (by decide), cnt_o _ _ _ (by decide)]; exact hC) (by rw [chg_o _ _ _ (by decide), cnt_o _ _ _ (by decide), chg_o _ _ _ (by decide), cnt_o _ _ _ (by decide)]; exact hG) hx (by rw [chg_o _ _ _ (by decide), cnt_o _ _ _ (by decide)]; exact hs) (by rw [chg_o _ _ _ (by decide), cnt_o _ _ _ (by decide)]; exact hat) (by rw [chg_o _ _ _ (by decide), cnt_o _ _ _ (by decide)]; exact h0) (by rw [chg_o _ _ _ (by decide), cnt_o _ _ _ (by decide)]; exact h8) (fun q => by rw [chg_o _ _ _ (by decide), cnt_o _ _ _ (by decide)]; exact ⟨(hO x hx hs).2 q, ln5 hd1.1 hN q⟩)) d_M_execute_163 (Nat.le_of_ble_eq_true rfl) ?_
        exact P_vret d_M_execute_166 (by rfl) (by rfl)
    · refine P_iconst (v := 0) d_M_execute_54 (by decide) ?_
      refine P_goto 69 d_M_execute_55 (by decide) ?_
      refine P_top (y := m_op (m_cnt μ x) x) (by rw [op_o]; unfold m_op; rw [if_pos ((nI_eq (by omega) (by decide)).mp c51)]) ?_
      refine P_istore_n (L' := [some (.inr 16), some (.inl _), some (.inl _), some (.inl _), none]) d_M_execute_69 (by decide) rfl ?_
      refine P_iload_n d_M_execute_70 rfl ?_
      refine P_iconst (v := 3) d_M_execute_71 (by decide) ?_
      refine P_iand d_M_execute_72 ?_
      refine P_istore (L' := [some (.inr 16), some (.inl _), some (.inl _), some (.inl _), some (.inl _)]) d_M_execute_73 (by decide) rfl ?_
      refine P_iload_n d_M_execute_75 rfl ?_
      refine P_iconst (v := 1) d_M_execute_76 (by decide) ?_
      refine P_icmp_ne 99 d_M_execute_77 (by decide) (fun c77 => ?_) (fun c77 => ?_)
      · refine P_iload_n d_M_execute_99 rfl ?_
        refine P_iconst (v := 2) d_M_execute_100 (by decide) ?_
        refine P_icmp_ne 123 d_M_execute_101 (by decide) (fun c101 => ?_) (fun c101 => ?_)
        · refine P_iload_n d_M_execute_123 rfl ?_
          refine P_iconst (v := 3) d_M_execute_124 (by decide) ?_
          refine P_icmp_ne 146 d_M_execute_125 (by decide) (fun c125 => ?_) (fun c125 => ?_)
          · refine P_iload_n d_M_execute_146 rfl ?_
            refine P_bipush (v := 8) d_M_execute_147 (by decide) ?_
            refine P_icmp_ne 160 d_M_execute_149 (by decide) (fun c149 => ?_) (fun c149 => ?_)
            · refine PW_S (σ2 := (σ, m_chg (m_cnt μ x) x)) (by
                unfold m_chg
                rw [show (m_cnt μ x) 17 x = μ 17 x by rw [cnt_o _ _ _ (by decide)]]
                first | rw [if_pos c77] | rw [if_neg c77, if_pos c101] | rw [if_neg c77, if_neg c101, if_pos c125] | rw [if_neg c77, if_neg c101, if_neg c125, if_pos c149] | rw [if_neg c77, if_neg c101, if_neg c125, if_neg c149]) ?_
              refine P_aload_n d_M_execute_160 rfl ?_
              refine P_iload_n d_M_execute_161 rfl ?_
              refine P_iload_n d_M_execute_162 rfl ?_
              refine cl_M_goOn (c_M_goOn _ (m_chg (m_cnt μ x) x) _ _ x N hN (by rw [chg_o _ _ _ (by decide), cnt_o _ _ _ (by decide)]; exact hL) (by rw [chg_o _ _ _ (by decide), cnt_o _ _ _ (by decide), chg_o _ _ _ (by decide), cnt_o _ _ _ (by decide)]; exact hC) (by rw [chg_o _ _ _ (by decide), cnt_o _ _ _ (by decide), chg_o _ _ _ (by decide), cnt_o _ _ _ (by decide)]; exact hG) hx (by rw [chg_o _ _ _ (by decide), cnt_o _ _ _ (by decide)]; exact hs) (by rw [chg_o _ _ _ (by decide), cnt_o _ _ _ (by decide)]; exact hat) (by rw [chg_o _ _ _ (by decide), cnt_o _ _ _ (by decide)]; exact h0) (by rw [chg_o _ _ _ (by decide), cnt_o _ _ _ (by decide)]; exact h8) (fun q => by rw [chg_o _ _ _ (by decide), cnt_o _ _ _ (by decide)]; exact ⟨(hO x hx hs).2 q, ln5 hd1.1 hN q⟩)) d_M_execute_163 (Nat.le_of_ble_eq_true rfl) ?_
              exact P_vret d_M_execute_166 (by rfl) (by rfl)
            · refine P_aload_n d_M_execute_152 rfl ?_
              refine g_M_registers d_M_execute_153 ?_
              refine P_iload d_M_execute_156 rfl ?_
              refine P_iload_n d_M_execute_158 rfl ?_
              refine Q_iast ar_20 (vp_and3 _) d_M_execute_159 ?_
              refine PW_S (σ2 := (σ, m_chg (m_cnt μ x) x)) (by
                unfold m_chg
                rw [show (m_cnt μ x) 17 x = μ 17 x by rw [cnt_o _ _ _ (by decide)]]
                first | rw [if_pos c77] | rw [if_neg c77, if_pos c101] | rw [if_neg c77, if_neg c101, if_pos c125] | rw [if_neg c77, if_neg c101, if_neg c125, if_pos c149] | rw [if_neg c77, if_neg c101, if_neg c125, if_neg c149]) ?_
              refine P_aload_n d_M_execute_160 rfl ?_
              refine P_iload_n d_M_execute_161 rfl ?_
              refine P_iload_n d_M_execute_162 rfl ?_
              refine cl_M_goOn (c_M_goOn _ (m_chg (m_cnt μ x) x) _ _ x N hN (by rw [chg_o _ _ _ (by decide), cnt_o _ _ _ (by decide)]; exact hL) (by rw [chg_o _ _ _ (by decide), cnt_o _ _ _ (by decide), chg_o _ _ _ (by decide), cnt_o _ _ _ (by decide)]; exact hC) (by rw [chg_o _ _ _ (by decide), cnt_o _ _ _ (by decide), chg_o _ _ _ (by decide), cnt_o _ _ _ (by decide)]; exact hG) hx (by rw [chg_o _ _ _ (by decide), cnt_o _ _ _ (by decide)]; exact hs) (by rw [chg_o _ _ _ (by decide), cnt_o _ _ _ (by decide)]; exact hat) (by rw [chg_o _ _ _ (by decide), cnt_o _ _ _ (by decide)]; exact h0) (by rw [chg_o _ _ _ (by decide), cnt_o _ _ _ (by decide)]; exact h8) (fun q => by rw [chg_o _ _ _ (by decide), cnt_o _ _ _ (by decide)]; exact ⟨(hO x hx hs).2 q, ln5 hd1.1 hN q⟩)) d_M_execute_163 (Nat.le_of_ble_eq_true rfl) ?_
              exact P_vret d_M_execute_166 (by rfl) (by rfl)
          · have ho3 : vp_in (m_op (m_cnt μ x) x >>> ((2 : Int32) &&& 31)) 4 := by
              rw [op_o]
              unfold m_op
              rw [if_neg (by rw [c125]; decide)]
              exact (hO x hx hs).1 c125
            refine P_aload_n d_M_execute_128 rfl ?_
            refine g_M_registers d_M_execute_129 ?_
            refine P_iload d_M_execute_132 rfl ?_
            refine P_aload_n d_M_execute_134 rfl ?_
            refine g_M_registers d_M_execute_135 ?_
            refine P_iload_n d_M_execute_138 rfl ?_
            refine P_iconst (v := 2) d_M_execute_139 (by decide) ?_
            refine P_ishr d_M_execute_140 ?_
            refine Q_iald ar_20 (ho3) d_M_execute_141 ?_
            refine Q_iast ar_20 (vp_and3 _) d_M_execute_142 ?_
            refine P_goto 160 d_M_execute_143 (by decide) ?_
            refine PW_S (σ2 := (σ, m_chg (m_cnt μ x) x)) (by
              unfold m_chg
              rw [show (m_cnt μ x) 17 x = μ 17 x by rw [cnt_o _ _ _ (by decide)]]
              first | rw [if_pos c77] | rw [if_neg c77, if_pos c101] | rw [if_neg c77, if_neg c101, if_pos c125] | rw [if_neg c77, if_neg c101, if_neg c125, if_pos c149] | rw [if_neg c77, if_neg c101, if_neg c125, if_neg c149]) ?_
            refine P_aload_n d_M_execute_160 rfl ?_
            refine P_iload_n d_M_execute_161 rfl ?_
            refine P_iload_n d_M_execute_162 rfl ?_
            refine cl_M_goOn (c_M_goOn _ (m_chg (m_cnt μ x) x) _ _ x N hN (by rw [chg_o _ _ _ (by decide), cnt_o _ _ _ (by decide)]; exact hL) (by rw [chg_o _ _ _ (by decide), cnt_o _ _ _ (by decide), chg_o _ _ _ (by decide), cnt_o _ _ _ (by decide)]; exact hC) (by rw [chg_o _ _ _ (by decide), cnt_o _ _ _ (by decide), chg_o _ _ _ (by decide), cnt_o _ _ _ (by decide)]; exact hG) hx (by rw [chg_o _ _ _ (by decide), cnt_o _ _ _ (by decide)]; exact hs) (by rw [chg_o _ _ _ (by decide), cnt_o _ _ _ (by decide)]; exact hat) (by rw [chg_o _ _ _ (by decide), cnt_o _ _ _ (by decide)]; exact h0) (by rw [chg_o _ _ _ (by decide), cnt_o _ _ _ (by decide)]; exact h8) (fun q => by rw [chg_o _ _ _ (by decide), cnt_o _ _ _ (by decide)]; exact ⟨(hO x hx hs).2 q, ln5 hd1.1 hN q⟩)) d_M_execute_163 (Nat.le_of_ble_eq_true rfl) ?_
            exact P_vret d_M_execute_166 (by rfl) (by rfl)
        · refine P_aload_n d_M_execute_104 rfl ?_
          refine g_M_registers d_M_execute_105 ?_
          refine P_iload d_M_execute_108 rfl ?_
          refine P_aload_n d_M_execute_110 rfl ?_
          refine g_M_registers d_M_execute_111 ?_
          refine P_iload d_M_execute_114 rfl ?_
          refine Q_iald ar_20 (vp_and3 _) d_M_execute_116 ?_
          refine P_iconst (v := 1) d_M_execute_117 (by decide) ?_
          refine P_isub d_M_execute_118 ?_
          refine Q_iast ar_20 (vp_and3 _) d_M_execute_119 ?_
          refine P_goto 160 d_M_execute_120 (by decide) ?_
          refine PW_S (σ2 := (σ, m_chg (m_cnt μ x) x)) (by
            unfold m_chg
            rw [show (m_cnt μ x) 17 x = μ 17 x by rw [cnt_o _ _ _ (by decide)]]
            first | rw [if_pos c77] | rw [if_neg c77, if_pos c101] | rw [if_neg c77, if_neg c101, if_pos c125] | rw [if_neg c77, if_neg c101, if_neg c125, if_pos c149] | rw [if_neg c77, if_neg c101, if_neg c125, if_neg c149]) ?_
          refine P_aload_n d_M_execute_160 rfl ?_
          refine P_iload_n d_M_execute_161 rfl ?_
          refine P_iload_n d_M_execute_162 rfl ?_
          refine cl_M_goOn (c_M_goOn _ (m_chg (m_cnt μ x) x) _ _ x N hN (by rw [chg_o _ _ _ (by decide), cnt_o _ _ _ (by decide)]; exact hL) (by rw [chg_o _ _ _ (by decide), cnt_o _ _ _ (by decide), chg_o _ _ _ (by decide), cnt_o _ _ _ (by decide)]; exact hC) (by rw [chg_o _ _ _ (by decide), cnt_o _ _ _ (by decide), chg_o _ _ _ (by decide), cnt_o _ _ _ (by decide)]; exact hG) hx (by rw [chg_o _ _ _ (by decide), cnt_o _ _ _ (by decide)]; exact hs) (by rw [chg_o _ _ _ (by decide), cnt_o _ _ _ (by decide)]; exact hat) (by rw [chg_o _ _ _ (by decide), cnt_o _ _ _ (by decide)]; exact h0) (by rw [chg_o _ _ _ (by decide), cnt_o _ _ _ (by decide)]; exact h8) (fun q => by rw [chg_o _ _ _ (by decide), cnt_o _ _ _ (by decide)]; exact ⟨(hO x hx hs).2 q, ln5 hd1.1 hN q⟩)) d_M_execute_163 (Nat.le_of_ble_eq_true rfl) ?_
          exact P_vret d_M_execute_166 (by rfl) (by rfl)
      · refine P_aload_n d_M_execute_80 rfl ?_
        refine g_M_registers d_M_execute_81 ?_
        refine P_iload d_M_execute_84 rfl ?_
        refine P_aload_n d_M_execute_86 rfl ?_
        refine g_M_registers d_M_execute_87 ?_
        refine P_iload d_M_execute_90 rfl ?_
        refine Q_iald ar_20 (vp_and3 _) d_M_execute_92 ?_
        refine P_iconst (v := 1) d_M_execute_93 (by decide) ?_
        refine P_iadd d_M_execute_94 ?_
        refine Q_iast ar_20 (vp_and3 _) d_M_execute_95 ?_
        refine P_goto 160 d_M_execute_96 (by decide) ?_
        refine PW_S (σ2 := (σ, m_chg (m_cnt μ x) x)) (by
          unfold m_chg
          rw [show (m_cnt μ x) 17 x = μ 17 x by rw [cnt_o _ _ _ (by decide)]]
          first | rw [if_pos c77] | rw [if_neg c77, if_pos c101] | rw [if_neg c77, if_neg c101, if_pos c125] | rw [if_neg c77, if_neg c101, if_neg c125, if_pos c149] | rw [if_neg c77, if_neg c101, if_neg c125, if_neg c149]) ?_
        refine P_aload_n d_M_execute_160 rfl ?_
        refine P_iload_n d_M_execute_161 rfl ?_
        refine P_iload_n d_M_execute_162 rfl ?_
        refine cl_M_goOn (c_M_goOn _ (m_chg (m_cnt μ x) x) _ _ x N hN (by rw [chg_o _ _ _ (by decide), cnt_o _ _ _ (by decide)]; exact hL) (by rw [chg_o _ _ _ (by decide), cnt_o _ _ _ (by decide), chg_o _ _ _ (by decide), cnt_o _ _ _ (by decide)]; exact hC) (by rw [chg_o _ _ _ (by decide), cnt_o _ _ _ (by decide), chg_o _ _ _ (by decide), cnt_o _ _ _ (by decide)]; exact hG) hx (by rw [chg_o _ _ _ (by decide), cnt_o _ _ _ (by decide)]; exact hs) (by rw [chg_o _ _ _ (by decide), cnt_o _ _ _ (by decide)]; exact hat) (by rw [chg_o _ _ _ (by decide), cnt_o _ _ _ (by decide)]; exact h0) (by rw [chg_o _ _ _ (by decide), cnt_o _ _ _ (by decide)]; exact h8) (fun q => by rw [chg_o _ _ _ (by decide), cnt_o _ _ _ (by decide)]; exact ⟨(hO x hx hs).2 q, ln5 hd1.1 hN q⟩)) d_M_execute_163 (Nat.le_of_ble_eq_true rfl) ?_
        exact P_vret d_M_execute_166 (by rfl) (by rfl)
  · refine P_aload_n d_M_execute_12 rfl ?_
    refine g_M_count d_M_execute_13 ?_
    refine P_aload_n d_M_execute_16 rfl ?_
    refine g_M_at d_M_execute_17 ?_
    refine P_top (y := nI x) (hat) ?_
    refine P_dup2 d_M_execute_20 ?_
    refine Q_iald ar_22 (vp_in_nI (by omega) (by decide)) d_M_execute_21 ?_
    refine P_top (y := μ 22 x) (by rw [nI_clamp (by omega)]) ?_
    refine P_iconst (v := 1) d_M_execute_22 (by decide) ?_
    refine P_iadd d_M_execute_23 ?_
    refine Q_iast ar_22 (vp_in_nI (by omega) (by decide)) d_M_execute_24 ?_
    refine PW_S (σ2 := (σ, m_cnt μ x)) (by unfold m_cnt; first | rw [if_pos c9] | (rw [if_neg c9, nI_clamp (by omega)])) ?_
    refine P_aload_n d_M_execute_25 rfl ?_
    refine g_M_code d_M_execute_26 ?_
    refine P_aload_n d_M_execute_29 rfl ?_
    refine g_M_at d_M_execute_30 ?_
    refine P_top (y := nI x) (by rw [cnt_o _ _ _ (by decide)]; exact hat) ?_
    refine Q_iald ar_17 (vp_in_nI (by omega) (by decide)) d_M_execute_33 ?_
    refine P_top (y := μ 17 x) (by rw [nI_clamp (by omega), cnt_o _ _ _ (by decide)]) ?_
    refine P_istore_n (L' := [some (.inr 16), some (.inl _), none, none, none]) d_M_execute_34 (by decide) rfl ?_
    refine P_aload_n d_M_execute_35 rfl ?_
    refine P_aload_n d_M_execute_36 rfl ?_
    refine g_M_at d_M_execute_37 ?_
    refine P_top (y := nI x) (by rw [cnt_o _ _ _ (by decide)]; exact hat) ?_
    refine cl_M_nextOf (c_M_nextOf _ (m_cnt μ x) x N hN (by rw [cnt_o _ _ _ (by decide)]; exact hL) (by rw [cnt_o _ _ _ (by decide), cnt_o _ _ _ (by decide)]; exact hC) (by rw [cnt_o _ _ _ (by decide), cnt_o _ _ _ (by decide)]; exact hG) hx (by rw [cnt_o _ _ _ (by decide)]; exact hs)) d_M_execute_40 (Nat.le_of_ble_eq_true rfl) ?_
    refine P_top (y := nI (x + ln (μ 17 x))) (by rw [cnt_o _ _ _ (by decide)]) ?_
    refine P_istore_n (L' := [some (.inr 16), some (.inl _), some (.inl _), none, none]) d_M_execute_43 (by decide) rfl ?_
    refine P_iload_n d_M_execute_44 rfl ?_
    refine P_aload_n d_M_execute_45 rfl ?_
    refine g_M_at d_M_execute_46 ?_
    refine P_top (y := nI x) (by rw [cnt_o _ _ _ (by decide)]; exact hat) ?_
    refine P_isub d_M_execute_49 ?_
    refine P_top (y := nI (ln (μ 17 x))) (by rw [pk_sub (by omega)]; congr 1; omega) ?_
    refine P_iconst (v := 1) d_M_execute_50 (by decide) ?_
    refine P_icmp_ne 58 d_M_execute_51 (by decide) (fun c51 => ?_) (fun c51 => ?_)
    · have l2 : 1 < ln (μ 17 x) := by
        rcases Nat.lt_or_ge 1 (ln (μ 17 x)) with q | q
        · exact q
        · exact absurd (by rw [show ln (μ 17 x) = 1 by omega]; rfl) c51
      refine P_aload_n d_M_execute_58 rfl ?_
      refine g_M_code d_M_execute_59 ?_
      refine P_aload_n d_M_execute_62 rfl ?_
      refine g_M_at d_M_execute_63 ?_
      refine P_top (y := nI x) (by rw [cnt_o _ _ _ (by decide)]; exact hat) ?_
      refine P_iconst (v := 1) d_M_execute_66 (by decide) ?_
      refine P_iadd d_M_execute_67 ?_
      refine P_top (y := nI (x + 1)) (nI_1 x) ?_
      refine Q_iald ar_17 (vp_in_nI (by omega) (by decide)) d_M_execute_68 ?_
      refine P_top (y := μ 17 (x + 1)) (by rw [nI_clamp (by omega), cnt_o _ _ _ (by decide)]) ?_
      refine P_top (y := m_op (m_cnt μ x) x) (by rw [op_o]; unfold m_op; rw [if_neg (by omega)]) ?_
      refine P_istore_n (L' := [some (.inr 16), some (.inl _), some (.inl _), some (.inl _), none]) d_M_execute_69 (by decide) rfl ?_
      refine P_iload_n d_M_execute_70 rfl ?_
      refine P_iconst (v := 3) d_M_execute_71 (by decide) ?_
      refine P_iand d_M_execute_72 ?_
      refine P_istore (L' := [some (.inr 16), some (.inl _), some (.inl _), some (.inl _), some (.inl _)]) d_M_execute_73 (by decide) rfl ?_
      refine P_iload_n d_M_execute_75 rfl ?_
      refine P_iconst (v := 1) d_M_execute_76 (by decide) ?_
      refine P_icmp_ne 99 d_M_execute_77 (by decide) (fun c77 => ?_) (fun c77 => ?_)
      · refine P_iload_n d_M_execute_99 rfl ?_
        refine P_iconst (v := 2) d_M_execute_100 (by decide) ?_
        refine P_icmp_ne 123 d_M_execute_101 (by decide) (fun c101 => ?_) (fun c101 => ?_)
        · refine P_iload_n d_M_execute_123 rfl ?_
          refine P_iconst (v := 3) d_M_execute_124 (by decide) ?_
          refine P_icmp_ne 146 d_M_execute_125 (by decide) (fun c125 => ?_) (fun c125 => ?_)
          · refine P_iload_n d_M_execute_146 rfl ?_
            refine P_bipush (v := 8) d_M_execute_147 (by decide) ?_
            refine P_icmp_ne 160 d_M_execute_149 (by decide) (fun c149 => ?_) (fun c149 => ?_)
            · refine PW_S (σ2 := (σ, m_chg (m_cnt μ x) x)) (by
                unfold m_chg
                rw [show (m_cnt μ x) 17 x = μ 17 x by rw [cnt_o _ _ _ (by decide)]]
                first | rw [if_pos c77] | rw [if_neg c77, if_pos c101] | rw [if_neg c77, if_neg c101, if_pos c125] | rw [if_neg c77, if_neg c101, if_neg c125, if_pos c149] | rw [if_neg c77, if_neg c101, if_neg c125, if_neg c149]) ?_
              refine P_aload_n d_M_execute_160 rfl ?_
              refine P_iload_n d_M_execute_161 rfl ?_
              refine P_iload_n d_M_execute_162 rfl ?_
              refine cl_M_goOn (c_M_goOn _ (m_chg (m_cnt μ x) x) _ _ x N hN (by rw [chg_o _ _ _ (by decide), cnt_o _ _ _ (by decide)]; exact hL) (by rw [chg_o _ _ _ (by decide), cnt_o _ _ _ (by decide), chg_o _ _ _ (by decide), cnt_o _ _ _ (by decide)]; exact hC) (by rw [chg_o _ _ _ (by decide), cnt_o _ _ _ (by decide), chg_o _ _ _ (by decide), cnt_o _ _ _ (by decide)]; exact hG) hx (by rw [chg_o _ _ _ (by decide), cnt_o _ _ _ (by decide)]; exact hs) (by rw [chg_o _ _ _ (by decide), cnt_o _ _ _ (by decide)]; exact hat) (by rw [chg_o _ _ _ (by decide), cnt_o _ _ _ (by decide)]; exact h0) (by rw [chg_o _ _ _ (by decide), cnt_o _ _ _ (by decide)]; exact h8) (fun q => by rw [chg_o _ _ _ (by decide), cnt_o _ _ _ (by decide)]; exact ⟨(hO x hx hs).2 q, ln5 hd1.1 hN q⟩)) d_M_execute_163 (Nat.le_of_ble_eq_true rfl) ?_
              exact P_vret d_M_execute_166 (by rfl) (by rfl)
            · refine P_aload_n d_M_execute_152 rfl ?_
              refine g_M_registers d_M_execute_153 ?_
              refine P_iload d_M_execute_156 rfl ?_
              refine P_iload_n d_M_execute_158 rfl ?_
              refine Q_iast ar_20 (vp_and3 _) d_M_execute_159 ?_
              refine PW_S (σ2 := (σ, m_chg (m_cnt μ x) x)) (by
                unfold m_chg
                rw [show (m_cnt μ x) 17 x = μ 17 x by rw [cnt_o _ _ _ (by decide)]]
                first | rw [if_pos c77] | rw [if_neg c77, if_pos c101] | rw [if_neg c77, if_neg c101, if_pos c125] | rw [if_neg c77, if_neg c101, if_neg c125, if_pos c149] | rw [if_neg c77, if_neg c101, if_neg c125, if_neg c149]) ?_
              refine P_aload_n d_M_execute_160 rfl ?_
              refine P_iload_n d_M_execute_161 rfl ?_
              refine P_iload_n d_M_execute_162 rfl ?_
              refine cl_M_goOn (c_M_goOn _ (m_chg (m_cnt μ x) x) _ _ x N hN (by rw [chg_o _ _ _ (by decide), cnt_o _ _ _ (by decide)]; exact hL) (by rw [chg_o _ _ _ (by decide), cnt_o _ _ _ (by decide), chg_o _ _ _ (by decide), cnt_o _ _ _ (by decide)]; exact hC) (by rw [chg_o _ _ _ (by decide), cnt_o _ _ _ (by decide), chg_o _ _ _ (by decide), cnt_o _ _ _ (by decide)]; exact hG) hx (by rw [chg_o _ _ _ (by decide), cnt_o _ _ _ (by decide)]; exact hs) (by rw [chg_o _ _ _ (by decide), cnt_o _ _ _ (by decide)]; exact hat) (by rw [chg_o _ _ _ (by decide), cnt_o _ _ _ (by decide)]; exact h0) (by rw [chg_o _ _ _ (by decide), cnt_o _ _ _ (by decide)]; exact h8) (fun q => by rw [chg_o _ _ _ (by decide), cnt_o _ _ _ (by decide)]; exact ⟨(hO x hx hs).2 q, ln5 hd1.1 hN q⟩)) d_M_execute_163 (Nat.le_of_ble_eq_true rfl) ?_
              exact P_vret d_M_execute_166 (by rfl) (by rfl)
          · have ho3 : vp_in (m_op (m_cnt μ x) x >>> ((2 : Int32) &&& 31)) 4 := by
              rw [op_o]
              unfold m_op
              rw [if_neg (by rw [c125]; decide)]
              exact (hO x hx hs).1 c125
            refine P_aload_n d_M_execute_128 rfl ?_
            refine g_M_registers d_M_execute_129 ?_
            refine P_iload d_M_execute_132 rfl ?_
            refine P_aload_n d_M_execute_134 rfl ?_
            refine g_M_registers d_M_execute_135 ?_
            refine P_iload_n d_M_execute_138 rfl ?_
            refine P_iconst (v := 2) d_M_execute_139 (by decide) ?_
            refine P_ishr d_M_execute_140 ?_
            refine Q_iald ar_20 (ho3) d_M_execute_141 ?_
            refine Q_iast ar_20 (vp_and3 _) d_M_execute_142 ?_
            refine P_goto 160 d_M_execute_143 (by decide) ?_
            refine PW_S (σ2 := (σ, m_chg (m_cnt μ x) x)) (by
              unfold m_chg
              rw [show (m_cnt μ x) 17 x = μ 17 x by rw [cnt_o _ _ _ (by decide)]]
              first | rw [if_pos c77] | rw [if_neg c77, if_pos c101] | rw [if_neg c77, if_neg c101, if_pos c125] | rw [if_neg c77, if_neg c101, if_neg c125, if_pos c149] | rw [if_neg c77, if_neg c101, if_neg c125, if_neg c149]) ?_
            refine P_aload_n d_M_execute_160 rfl ?_
            refine P_iload_n d_M_execute_161 rfl ?_
            refine P_iload_n d_M_execute_162 rfl ?_
            refine cl_M_goOn (c_M_goOn _ (m_chg (m_cnt μ x) x) _ _ x N hN (by rw [chg_o _ _ _ (by decide), cnt_o _ _ _ (by decide)]; exact hL) (by rw [chg_o _ _ _ (by decide), cnt_o _ _ _ (by decide), chg_o _ _ _ (by decide), cnt_o _ _ _ (by decide)]; exact hC) (by rw [chg_o _ _ _ (by decide), cnt_o _ _ _ (by decide), chg_o _ _ _ (by decide), cnt_o _ _ _ (by decide)]; exact hG) hx (by rw [chg_o _ _ _ (by decide), cnt_o _ _ _ (by decide)]; exact hs) (by rw [chg_o _ _ _ (by decide), cnt_o _ _ _ (by decide)]; exact hat) (by rw [chg_o _ _ _ (by decide), cnt_o _ _ _ (by decide)]; exact h0) (by rw [chg_o _ _ _ (by decide), cnt_o _ _ _ (by decide)]; exact h8) (fun q => by rw [chg_o _ _ _ (by decide), cnt_o _ _ _ (by decide)]; exact ⟨(hO x hx hs).2 q, ln5 hd1.1 hN q⟩)) d_M_execute_163 (Nat.le_of_ble_eq_true rfl) ?_
            exact P_vret d_M_execute_166 (by rfl) (by rfl)
        · refine P_aload_n d_M_execute_104 rfl ?_
          refine g_M_registers d_M_execute_105 ?_
          refine P_iload d_M_execute_108 rfl ?_
          refine P_aload_n d_M_execute_110 rfl ?_
          refine g_M_registers d_M_execute_111 ?_
          refine P_iload d_M_execute_114 rfl ?_
          refine Q_iald ar_20 (vp_and3 _) d_M_execute_116 ?_
          refine P_iconst (v := 1) d_M_execute_117 (by decide) ?_
          refine P_isub d_M_execute_118 ?_
          refine Q_iast ar_20 (vp_and3 _) d_M_execute_119 ?_
          refine P_goto 160 d_M_execute_120 (by decide) ?_
          refine PW_S (σ2 := (σ, m_chg (m_cnt μ x) x)) (by
            unfold m_chg
            rw [show (m_cnt μ x) 17 x = μ 17 x by rw [cnt_o _ _ _ (by decide)]]
            first | rw [if_pos c77] | rw [if_neg c77, if_pos c101] | rw [if_neg c77, if_neg c101, if_pos c125] | rw [if_neg c77, if_neg c101, if_neg c125, if_pos c149] | rw [if_neg c77, if_neg c101, if_neg c125, if_neg c149]) ?_
          refine P_aload_n d_M_execute_160 rfl ?_
          refine P_iload_n d_M_execute_161 rfl ?_
          refine P_iload_n d_M_execute_162 rfl ?_
          refine cl_M_goOn (c_M_goOn _ (m_chg (m_cnt μ x) x) _ _ x N hN (by rw [chg_o _ _ _ (by decide), cnt_o _ _ _ (by decide)]; exact hL) (by rw [chg_o _ _ _ (by decide), cnt_o _ _ _ (by decide), chg_o _ _ _ (by decide), cnt_o _ _ _ (by decide)]; exact hC) (by rw [chg_o _ _ _ (by decide), cnt_o _ _ _ (by decide), chg_o _ _ _ (by decide), cnt_o _ _ _ (by decide)]; exact hG) hx (by rw [chg_o _ _ _ (by decide), cnt_o _ _ _ (by decide)]; exact hs) (by rw [chg_o _ _ _ (by decide), cnt_o _ _ _ (by decide)]; exact hat) (by rw [chg_o _ _ _ (by decide), cnt_o _ _ _ (by decide)]; exact h0) (by rw [chg_o _ _ _ (by decide), cnt_o _ _ _ (by decide)]; exact h8) (fun q => by rw [chg_o _ _ _ (by decide), cnt_o _ _ _ (by decide)]; exact ⟨(hO x hx hs).2 q, ln5 hd1.1 hN q⟩)) d_M_execute_163 (Nat.le_of_ble_eq_true rfl) ?_
          exact P_vret d_M_execute_166 (by rfl) (by rfl)
      · refine P_aload_n d_M_execute_80 rfl ?_
        refine g_M_registers d_M_execute_81 ?_
        refine P_iload d_M_execute_84 rfl ?_
        refine P_aload_n d_M_execute_86 rfl ?_
        refine g_M_registers d_M_execute_87 ?_
        refine P_iload d_M_execute_90 rfl ?_
        refine Q_iald ar_20 (vp_and3 _) d_M_execute_92 ?_
        refine P_iconst (v := 1) d_M_execute_93 (by decide) ?_
        refine P_iadd d_M_execute_94 ?_
        refine Q_iast ar_20 (vp_and3 _) d_M_execute_95 ?_
        refine P_goto 160 d_M_execute_96 (by decide) ?_
        refine PW_S (σ2 := (σ, m_chg (m_cnt μ x) x)) (by
          unfold m_chg
          rw [show (m_cnt μ x) 17 x = μ 17 x by rw [cnt_o _ _ _ (by decide)]]
          first | rw [if_pos c77] | rw [if_neg c77, if_pos c101] | rw [if_neg c77, if_neg c101, if_pos c125] | rw [if_neg c77, if_neg c101, if_neg c125, if_pos c149] | rw [if_neg c77, if_neg c101, if_neg c125, if_neg c149]) ?_
        refine P_aload_n d_M_execute_160 rfl ?_
        refine P_iload_n d_M_execute_161 rfl ?_
        refine P_iload_n d_M_execute_162 rfl ?_
        refine cl_M_goOn (c_M_goOn _ (m_chg (m_cnt μ x) x) _ _ x N hN (by rw [chg_o _ _ _ (by decide), cnt_o _ _ _ (by decide)]; exact hL) (by rw [chg_o _ _ _ (by decide), cnt_o _ _ _ (by decide), chg_o _ _ _ (by decide), cnt_o _ _ _ (by decide)]; exact hC) (by rw [chg_o _ _ _ (by decide), cnt_o _ _ _ (by decide), chg_o _ _ _ (by decide), cnt_o _ _ _ (by decide)]; exact hG) hx (by rw [chg_o _ _ _ (by decide), cnt_o _ _ _ (by decide)]; exact hs) (by rw [chg_o _ _ _ (by decide), cnt_o _ _ _ (by decide)]; exact hat) (by rw [chg_o _ _ _ (by decide), cnt_o _ _ _ (by decide)]; exact h0) (by rw [chg_o _ _ _ (by decide), cnt_o _ _ _ (by decide)]; exact h8) (fun q => by rw [chg_o _ _ _ (by decide), cnt_o _ _ _ (by decide)]; exact ⟨(hO x hx hs).2 q, ln5 hd1.1 hN q⟩)) d_M_execute_163 (Nat.le_of_ble_eq_true rfl) ?_
        exact P_vret d_M_execute_166 (by rfl) (by rfl)
    · refine P_iconst (v := 0) d_M_execute_54 (by decide) ?_
      refine P_goto 69 d_M_execute_55 (by decide) ?_
      refine P_top (y := m_op (m_cnt μ x) x) (by rw [op_o]; unfold m_op; rw [if_pos ((nI_eq (by omega) (by decide)).mp c51)]) ?_
      refine P_istore_n (L' := [some (.inr 16), some (.inl _), some (.inl _), some (.inl _), none]) d_M_execute_69 (by decide) rfl ?_
      refine P_iload_n d_M_execute_70 rfl ?_
      refine P_iconst (v := 3) d_M_execute_71 (by decide) ?_
      refine P_iand d_M_execute_72 ?_
      refine P_istore (L' := [some (.inr 16), some (.inl _), some (.inl _), some (.inl _), some (.inl _)]) d_M_execute_73 (by decide) rfl ?_
      refine P_iload_n d_M_execute_75 rfl ?_
      refine P_iconst (v := 1) d_M_execute_76 (by decide) ?_
      refine P_icmp_ne 99 d_M_execute_77 (by decide) (fun c77 => ?_) (fun c77 => ?_)
      · refine P_iload_n d_M_execute_99 rfl ?_
        refine P_iconst (v := 2) d_M_execute_100 (by decide) ?_
        refine P_icmp_ne 123 d_M_execute_101 (by decide) (fun c101 => ?_) (fun c101 => ?_)
        · refine P_iload_n d_M_execute_123 rfl ?_
          refine P_iconst (v := 3) d_M_execute_124 (by decide) ?_
          refine P_icmp_ne 146 d_M_execute_125 (by decide) (fun c125 => ?_) (fun c125 => ?_)
          · refine P_iload_n d_M_execute_146 rfl ?_
            refine P_bipush (v := 8) d_M_execute_147 (by decide) ?_
            refine P_icmp_ne 160 d_M_execute_149 (by decide) (fun c149 => ?_) (fun c149 => ?_)
            · refine PW_S (σ2 := (σ, m_chg (m_cnt μ x) x)) (by
                unfold m_chg
                rw [show (m_cnt μ x) 17 x = μ 17 x by rw [cnt_o _ _ _ (by decide)]]
                first | rw [if_pos c77] | rw [if_neg c77, if_pos c101] | rw [if_neg c77, if_neg c101, if_pos c125] | rw [if_neg c77, if_neg c101, if_neg c125, if_pos c149] | rw [if_neg c77, if_neg c101, if_neg c125, if_neg c149]) ?_
              refine P_aload_n d_M_execute_160 rfl ?_
              refine P_iload_n d_M_execute_161 rfl ?_
              refine P_iload_n d_M_execute_162 rfl ?_
              refine cl_M_goOn (c_M_goOn _ (m_chg (m_cnt μ x) x) _ _ x N hN (by rw [chg_o _ _ _ (by decide), cnt_o _ _ _ (by decide)]; exact hL) (by rw [chg_o _ _ _ (by decide), cnt_o _ _ _ (by decide), chg_o _ _ _ (by decide), cnt_o _ _ _ (by decide)]; exact hC) (by rw [chg_o _ _ _ (by decide), cnt_o _ _ _ (by decide), chg_o _ _ _ (by decide), cnt_o _ _ _ (by decide)]; exact hG) hx (by rw [chg_o _ _ _ (by decide), cnt_o _ _ _ (by decide)]; exact hs) (by rw [chg_o _ _ _ (by decide), cnt_o _ _ _ (by decide)]; exact hat) (by rw [chg_o _ _ _ (by decide), cnt_o _ _ _ (by decide)]; exact h0) (by rw [chg_o _ _ _ (by decide), cnt_o _ _ _ (by decide)]; exact h8) (fun q => by rw [chg_o _ _ _ (by decide), cnt_o _ _ _ (by decide)]; exact ⟨(hO x hx hs).2 q, ln5 hd1.1 hN q⟩)) d_M_execute_163 (Nat.le_of_ble_eq_true rfl) ?_
              exact P_vret d_M_execute_166 (by rfl) (by rfl)
            · refine P_aload_n d_M_execute_152 rfl ?_
              refine g_M_registers d_M_execute_153 ?_
              refine P_iload d_M_execute_156 rfl ?_
              refine P_iload_n d_M_execute_158 rfl ?_
              refine Q_iast ar_20 (vp_and3 _) d_M_execute_159 ?_
              refine PW_S (σ2 := (σ, m_chg (m_cnt μ x) x)) (by
                unfold m_chg
                rw [show (m_cnt μ x) 17 x = μ 17 x by rw [cnt_o _ _ _ (by decide)]]
                first | rw [if_pos c77] | rw [if_neg c77, if_pos c101] | rw [if_neg c77, if_neg c101, if_pos c125] | rw [if_neg c77, if_neg c101, if_neg c125, if_pos c149] | rw [if_neg c77, if_neg c101, if_neg c125, if_neg c149]) ?_
              refine P_aload_n d_M_execute_160 rfl ?_
              refine P_iload_n d_M_execute_161 rfl ?_
              refine P_iload_n d_M_execute_162 rfl ?_
              refine cl_M_goOn (c_M_goOn _ (m_chg (m_cnt μ x) x) _ _ x N hN (by rw [chg_o _ _ _ (by decide), cnt_o _ _ _ (by decide)]; exact hL) (by rw [chg_o _ _ _ (by decide), cnt_o _ _ _ (by decide), chg_o _ _ _ (by decide), cnt_o _ _ _ (by decide)]; exact hC) (by rw [chg_o _ _ _ (by decide), cnt_o _ _ _ (by decide), chg_o _ _ _ (by decide), cnt_o _ _ _ (by decide)]; exact hG) hx (by rw [chg_o _ _ _ (by decide), cnt_o _ _ _ (by decide)]; exact hs) (by rw [chg_o _ _ _ (by decide), cnt_o _ _ _ (by decide)]; exact hat) (by rw [chg_o _ _ _ (by decide), cnt_o _ _ _ (by decide)]; exact h0) (by rw [chg_o _ _ _ (by decide), cnt_o _ _ _ (by decide)]; exact h8) (fun q => by rw [chg_o _ _ _ (by decide), cnt_o _ _ _ (by decide)]; exact ⟨(hO x hx hs).2 q, ln5 hd1.1 hN q⟩)) d_M_execute_163 (Nat.le_of_ble_eq_true rfl) ?_
              exact P_vret d_M_execute_166 (by rfl) (by rfl)
          · have ho3 : vp_in (m_op (m_cnt μ x) x >>> ((2 : Int32) &&& 31)) 4 := by
              rw [op_o]
              unfold m_op
              rw [if_neg (by rw [c125]; decide)]
              exact (hO x hx hs).1 c125
            refine P_aload_n d_M_execute_128 rfl ?_
            refine g_M_registers d_M_execute_129 ?_
            refine P_iload d_M_execute_132 rfl ?_
            refine P_aload_n d_M_execute_134 rfl ?_
            refine g_M_registers d_M_execute_135 ?_
            refine P_iload_n d_M_execute_138 rfl ?_
            refine P_iconst (v := 2) d_M_execute_139 (by decide) ?_
            refine P_ishr d_M_execute_140 ?_
            refine Q_iald ar_20 (ho3) d_M_execute_141 ?_
            refine Q_iast ar_20 (vp_and3 _) d_M_execute_142 ?_
            refine P_goto 160 d_M_execute_143 (by decide) ?_
            refine PW_S (σ2 := (σ, m_chg (m_cnt μ x) x)) (by
              unfold m_chg
              rw [show (m_cnt μ x) 17 x = μ 17 x by rw [cnt_o _ _ _ (by decide)]]
              first | rw [if_pos c77] | rw [if_neg c77, if_pos c101] | rw [if_neg c77, if_neg c101, if_pos c125] | rw [if_neg c77, if_neg c101, if_neg c125, if_pos c149] | rw [if_neg c77, if_neg c101, if_neg c125, if_neg c149]) ?_
            refine P_aload_n d_M_execute_160 rfl ?_
            refine P_iload_n d_M_execute_161 rfl ?_
            refine P_iload_n d_M_execute_162 rfl ?_
            refine cl_M_goOn (c_M_goOn _ (m_chg (m_cnt μ x) x) _ _ x N hN (by rw [chg_o _ _ _ (by decide), cnt_o _ _ _ (by decide)]; exact hL) (by rw [chg_o _ _ _ (by decide), cnt_o _ _ _ (by decide), chg_o _ _ _ (by decide), cnt_o _ _ _ (by decide)]; exact hC) (by rw [chg_o _ _ _ (by decide), cnt_o _ _ _ (by decide), chg_o _ _ _ (by decide), cnt_o _ _ _ (by decide)]; exact hG) hx (by rw [chg_o _ _ _ (by decide), cnt_o _ _ _ (by decide)]; exact hs) (by rw [chg_o _ _ _ (by decide), cnt_o _ _ _ (by decide)]; exact hat) (by rw [chg_o _ _ _ (by decide), cnt_o _ _ _ (by decide)]; exact h0) (by rw [chg_o _ _ _ (by decide), cnt_o _ _ _ (by decide)]; exact h8) (fun q => by rw [chg_o _ _ _ (by decide), cnt_o _ _ _ (by decide)]; exact ⟨(hO x hx hs).2 q, ln5 hd1.1 hN q⟩)) d_M_execute_163 (Nat.le_of_ble_eq_true rfl) ?_
            exact P_vret d_M_execute_166 (by rfl) (by rfl)
        · refine P_aload_n d_M_execute_104 rfl ?_
          refine g_M_registers d_M_execute_105 ?_
          refine P_iload d_M_execute_108 rfl ?_
          refine P_aload_n d_M_execute_110 rfl ?_
          refine g_M_registers d_M_execute_111 ?_
          refine P_iload d_M_execute_114 rfl ?_
          refine Q_iald ar_20 (vp_and3 _) d_M_execute_116 ?_
          refine P_iconst (v := 1) d_M_execute_117 (by decide) ?_
          refine P_isub d_M_execute_118 ?_
          refine Q_iast ar_20 (vp_and3 _) d_M_execute_119 ?_
          refine P_goto 160 d_M_execute_120 (by decide) ?_
          refine PW_S (σ2 := (σ, m_chg (m_cnt μ x) x)) (by
            unfold m_chg
            rw [show (m_cnt μ x) 17 x = μ 17 x by rw [cnt_o _ _ _ (by decide)]]
            first | rw [if_pos c77] | rw [if_neg c77, if_pos c101] | rw [if_neg c77, if_neg c101, if_pos c125] | rw [if_neg c77, if_neg c101, if_neg c125, if_pos c149] | rw [if_neg c77, if_neg c101, if_neg c125, if_neg c149]) ?_
          refine P_aload_n d_M_execute_160 rfl ?_
          refine P_iload_n d_M_execute_161 rfl ?_
          refine P_iload_n d_M_execute_162 rfl ?_
          refine cl_M_goOn (c_M_goOn _ (m_chg (m_cnt μ x) x) _ _ x N hN (by rw [chg_o _ _ _ (by decide), cnt_o _ _ _ (by decide)]; exact hL) (by rw [chg_o _ _ _ (by decide), cnt_o _ _ _ (by decide), chg_o _ _ _ (by decide), cnt_o _ _ _ (by decide)]; exact hC) (by rw [chg_o _ _ _ (by decide), cnt_o _ _ _ (by decide), chg_o _ _ _ (by decide), cnt_o _ _ _ (by decide)]; exact hG) hx (by rw [chg_o _ _ _ (by decide), cnt_o _ _ _ (by decide)]; exact hs) (by rw [chg_o _ _ _ (by decide), cnt_o _ _ _ (by decide)]; exact hat) (by rw [chg_o _ _ _ (by decide), cnt_o _ _ _ (by decide)]; exact h0) (by rw [chg_o _ _ _ (by decide), cnt_o _ _ _ (by decide)]; exact h8) (fun q => by rw [chg_o _ _ _ (by decide), cnt_o _ _ _ (by decide)]; exact ⟨(hO x hx hs).2 q, ln5 hd1.1 hN q⟩)) d_M_execute_163 (Nat.le_of_ble_eq_true rfl) ?_
          exact P_vret d_M_execute_166 (by rfl) (by rfl)
      · refine P_aload_n d_M_execute_80 rfl ?_
        refine g_M_registers d_M_execute_81 ?_
        refine P_iload d_M_execute_84 rfl ?_
        refine P_aload_n d_M_execute_86 rfl ?_
        refine g_M_registers d_M_execute_87 ?_
        refine P_iload d_M_execute_90 rfl ?_
        refine Q_iald ar_20 (vp_and3 _) d_M_execute_92 ?_
        refine P_iconst (v := 1) d_M_execute_93 (by decide) ?_
        refine P_iadd d_M_execute_94 ?_
        refine Q_iast ar_20 (vp_and3 _) d_M_execute_95 ?_
        refine P_goto 160 d_M_execute_96 (by decide) ?_
        refine PW_S (σ2 := (σ, m_chg (m_cnt μ x) x)) (by
          unfold m_chg
          rw [show (m_cnt μ x) 17 x = μ 17 x by rw [cnt_o _ _ _ (by decide)]]
          first | rw [if_pos c77] | rw [if_neg c77, if_pos c101] | rw [if_neg c77, if_neg c101, if_pos c125] | rw [if_neg c77, if_neg c101, if_neg c125, if_pos c149] | rw [if_neg c77, if_neg c101, if_neg c125, if_neg c149]) ?_
        refine P_aload_n d_M_execute_160 rfl ?_
        refine P_iload_n d_M_execute_161 rfl ?_
        refine P_iload_n d_M_execute_162 rfl ?_
        refine cl_M_goOn (c_M_goOn _ (m_chg (m_cnt μ x) x) _ _ x N hN (by rw [chg_o _ _ _ (by decide), cnt_o _ _ _ (by decide)]; exact hL) (by rw [chg_o _ _ _ (by decide), cnt_o _ _ _ (by decide), chg_o _ _ _ (by decide), cnt_o _ _ _ (by decide)]; exact hC) (by rw [chg_o _ _ _ (by decide), cnt_o _ _ _ (by decide), chg_o _ _ _ (by decide), cnt_o _ _ _ (by decide)]; exact hG) hx (by rw [chg_o _ _ _ (by decide), cnt_o _ _ _ (by decide)]; exact hs) (by rw [chg_o _ _ _ (by decide), cnt_o _ _ _ (by decide)]; exact hat) (by rw [chg_o _ _ _ (by decide), cnt_o _ _ _ (by decide)]; exact h0) (by rw [chg_o _ _ _ (by decide), cnt_o _ _ _ (by decide)]; exact h8) (fun q => by rw [chg_o _ _ _ (by decide), cnt_o _ _ _ (by decide)]; exact ⟨(hO x hx hs).2 q, ln5 hd1.1 hN q⟩)) d_M_execute_163 (Nat.le_of_ble_eq_true rfl) ?_
        exact P_vret d_M_execute_166 (by rfl) (by rfl)
/-- what holds of the reference while it runs: its program, its stack -/
def RM (μ : SG) (N : Nat) : Prop := (N ≤ 64 ∧ μ 16 2 = nI N ∧ Chn (μ 17) (μ 18) N ∧ Gap (μ 17) (μ 18) N ∧ Opn (μ 17) (μ 18) N) ∧ ¬ μ 16 7 < 0 ∧ μ 16 7 ≤ 8
theorem goOn_17 (μ : SG) (x : Nat) (k nx : Int32) : (m_goOn μ x k nx) 17 = μ 17 ∧ (m_goOn μ x k nx) 18 = μ 18 ∧ (m_goOn μ x k nx) 16 2 = μ 16 2 ∧ (m_goOn μ x k nx) 16 10 = μ 16 10 := by
  unfold m_goOn
  split; exact ⟨rfl, rfl, rfl, rfl⟩
  split; split; exact ⟨rfl, rfl, rfl, rfl⟩; exact ⟨rfl, rfl, rfl, rfl⟩
  split; split; exact ⟨rfl, rfl, rfl, rfl⟩; exact ⟨rfl, rfl, rfl, rfl⟩
  split; split; exact ⟨rfl, rfl, rfl, rfl⟩; exact ⟨rfl, rfl, rfl, rfl⟩
  split; exact ⟨rfl, rfl, rfl, rfl⟩; exact ⟨rfl, rfl, rfl, rfl⟩
theorem goOn_held {μ : SG} {x : Nat} {k nx : Int32} (h0 : ¬ μ 16 7 < 0) (h8 : μ 16 7 ≤ 8) : ¬ (m_goOn μ x k nx) 16 7 < 0 ∧ (m_goOn μ x k nx) 16 7 ≤ 8 := by
  unfold m_goOn
  split; exact ⟨h0, h8⟩
  split
  · split
    · exact ⟨h0, h8⟩
    · constructor
      · show ¬ μ 16 7 - 1 < 0
        grind
      · show μ 16 7 - 1 ≤ 8
        grind
  split
  · split
    · exact ⟨h0, h8⟩
    · constructor
      · show ¬ μ 16 7 + 1 < 0
        grind
      · show μ 16 7 + 1 ≤ 8
        grind
  split; split; exact ⟨h0, h8⟩; exact ⟨h0, h8⟩
  split; exact ⟨h0, h8⟩; exact ⟨h0, h8⟩
theorem exec_o (μ : SG) (x : Nat) : (m_exec μ x) 17 = μ 17 ∧ (m_exec μ x) 18 = μ 18 ∧ (m_exec μ x) 16 2 = μ 16 2 ∧ (m_exec μ x) 16 10 = μ 16 10 := by
  have h := goOn_17 (m_chg (m_cnt μ x) x) x (μ 17 x) (nI (x + ln (μ 17 x)))
  rw [chg_o _ _ _ (by decide), cnt_o _ _ _ (by decide), chg_o _ _ _ (by decide), cnt_o _ _ _ (by decide), chg_o _ _ _ (by decide), cnt_o _ _ _ (by decide)] at h
  exact h
theorem exec_RM {μ : SG} {x N : Nat} (h : RM μ N) : RM (m_exec μ x) N := by
  obtain ⟨⟨h1, h2, h3, h4, h5⟩, h6, h7⟩ := h
  obtain ⟨e1, e2, e3, -⟩ := exec_o μ x
  refine ⟨⟨h1, by rw [e3]; exact h2, by rw [e1, e2]; exact h3, by rw [e1, e2]; exact h4, by rw [e1, e2]; exact h5⟩, ?_⟩
  exact goOn_held (by rw [chg_o _ _ _ (by decide), cnt_o _ _ _ (by decide)]; exact h6) (by rw [chg_o _ _ _ (by decide), cnt_o _ _ _ (by decide)]; exact h7)
def m_tick (μ : SG) : SG := if m_starts μ (μ 16 8) = 0 then ss μ 16 9 2 else ss (m_exec μ (μ 16 8).toNatClampNeg) 16 10 (μ 16 10 + 1)
def m_loop : Nat → SG → SG
  | 0, μ => μ
  | n + 1, μ => if 200 ≤ μ 16 10 then μ else if μ 16 9 = 0 then m_loop n (m_tick μ) else μ
def m_fin (μ : SG) : SG := if μ 16 9 = 0 then ss μ 16 9 4 else μ
def m_start (μ : SG) (a : Int32) : SG := ss (ss (ss (ss μ 16 8 a) 16 7 0) 16 10 0) 16 9 0
theorem mstarts_ex {μ : SG} {a : Int32} {N : Nat} (hN : N ≤ 64) (hL : μ 16 2 = nI N) (h : ¬ m_starts μ a = 0) : ∃ x, x < N ∧ a = nI x ∧ ¬ μ 18 x = 0 := by
  unfold m_starts at h
  split at h
  · exact absurd rfl h
  split at h
  · exact absurd rfl h
  split at h
  · exact absurd rfl h
  rename_i c1 c2 c3
  rw [hL] at c2
  obtain ⟨x, hx, rfl⟩ := nI_of c1
  rw [nI_clamp hx] at c3
  refine ⟨x, ?_, rfl, c3⟩
  exact Nat.not_le.mp (fun q => c2 (nI_le q hx))
set_option maxHeartbeats 400000 in
set_option maxRecDepth 10000 in
theorem lp_M_run (σ : SG) (a : Int32) (N : Nat) : ∀ (n e : Nat) (μ : SG), RM μ N → e ≤ 200 → μ 16 10 = nI e → (200 ≤ e + n ∨ ¬ μ 16 9 = 0) → PW k_M_run (some ((m_fin (m_loop n μ)) 16 9)) (σ, m_fin (m_loop n μ)) 32 [some (.inr 16), some (.inl a)] [] (σ, μ) := by
  intro n
  induction n with
  | zero =>
    intro e μ hR he hE hq
    refine P_aload_n d_M_run_32 rfl ?_
    refine g_M_executed d_M_run_33 ?_
    refine P_top (y := nI e) (hE) ?_
    refine P_sipush (v := 200) d_M_run_36 (by decide) ?_
    refine P_icmp_ge 85 d_M_run_39 (by decide) (fun c39 => ?_) (fun c39 => ?_)
    · refine P_aload_n d_M_run_85 rfl ?_
      refine g_M_ending d_M_run_86 ?_
      refine P_if_ne 97 d_M_run_89 (by decide) (fun c89 => ?_) (fun c89 => ?_)
      · refine P_aload_n d_M_run_97 rfl ?_
        refine g_M_ending d_M_run_98 ?_
        exact P_iret d_M_run_101 (by simp [m_fin, m_loop, *] <;> rfl) (by simp [m_fin, m_loop, *] <;> rfl)
      · refine P_aload_n d_M_run_92 rfl ?_
        refine P_iconst (v := 4) d_M_run_93 (by decide) ?_
        refine s_M_ending d_M_run_94 ?_
        refine P_aload_n d_M_run_97 rfl ?_
        refine g_M_ending d_M_run_98 ?_
        exact P_iret d_M_run_101 (by simp [m_fin, m_loop, *] <;> rfl) (by simp [m_fin, m_loop, *] <;> rfl)
    · refine P_aload_n d_M_run_42 rfl ?_
      refine g_M_ending d_M_run_43 ?_
      refine P_if_ne 85 d_M_run_46 (by decide) (fun c46 => ?_) (fun c46 => False.elim (hq.elim (fun q => c39 (nI_le (a := 200) (by omega) (by omega))) (fun q => q c46)))
      refine P_aload_n d_M_run_85 rfl ?_
      refine g_M_ending d_M_run_86 ?_
      refine P_if_ne 97 d_M_run_89 (by decide) (fun c89 => ?_) (fun c89 => False.elim (c46 c89))
      refine P_aload_n d_M_run_97 rfl ?_
      refine g_M_ending d_M_run_98 ?_
      exact P_iret d_M_run_101 (by simp [m_fin, m_loop, *] <;> rfl) (by simp [m_fin, m_loop, *] <;> rfl)
  | succ n ih =>
    intro e μ hR he hE hq
    refine P_aload_n d_M_run_32 rfl ?_
    refine g_M_executed d_M_run_33 ?_
    refine P_top (y := nI e) (hE) ?_
    refine P_sipush (v := 200) d_M_run_36 (by decide) ?_
    refine P_icmp_ge 85 d_M_run_39 (by decide) (fun c39 => ?_) (fun c39 => ?_)
    · refine P_aload_n d_M_run_85 rfl ?_
      refine g_M_ending d_M_run_86 ?_
      refine P_if_ne 97 d_M_run_89 (by decide) (fun c89 => ?_) (fun c89 => ?_)
      · refine P_aload_n d_M_run_97 rfl ?_
        refine g_M_ending d_M_run_98 ?_
        exact P_iret d_M_run_101 (by simp [m_fin, m_loop, *] <;> rfl) (by simp [m_fin, m_loop, *] <;> rfl)
      · refine P_aload_n d_M_run_92 rfl ?_
        refine P_iconst (v := 4) d_M_run_93 (by decide) ?_
        refine s_M_ending d_M_run_94 ?_
        refine P_aload_n d_M_run_97 rfl ?_
        refine g_M_ending d_M_run_98 ?_
        exact P_iret d_M_run_101 (by simp [m_fin, m_loop, *] <;> rfl) (by simp [m_fin, m_loop, *] <;> rfl)
    · have he2 : e < 200 := nI_3le (by omega) 200 (by decide) c39
      have hL2 : μ 16 2 ≤ 64 := by rw [hR.1.2.1]; exact nI_le hR.1.1 (by decide)
      refine P_aload_n d_M_run_42 rfl ?_
      refine g_M_ending d_M_run_43 ?_
      refine P_if_ne 85 d_M_run_46 (by decide) (fun c46 => ?_) (fun c46 => ?_)
      · refine P_aload_n d_M_run_85 rfl ?_
        refine g_M_ending d_M_run_86 ?_
        refine P_if_ne 97 d_M_run_89 (by decide) (fun c89 => ?_) (fun c89 => False.elim (c46 c89))
        refine P_aload_n d_M_run_97 rfl ?_
        refine g_M_ending d_M_run_98 ?_
        exact P_iret d_M_run_101 (by simp [m_fin, m_loop, *] <;> rfl) (by simp [m_fin, m_loop, *] <;> rfl)
      · refine P_aload_n d_M_run_49 rfl ?_
        refine P_aload_n d_M_run_50 rfl ?_
        refine g_M_at d_M_run_51 ?_
        refine cl_M_starts (c_M_starts _ _ _ hL2) d_M_run_54 (Nat.le_of_ble_eq_true rfl) ?_
        refine P_if_eq 77 d_M_run_57 (by decide) (fun c57 => ?_) (fun c57 => ?_)
        · refine P_aload_n d_M_run_77 rfl ?_
          refine P_iconst (v := 2) d_M_run_78 (by decide) ?_
          refine s_M_ending d_M_run_79 ?_
          refine P_goto 32 d_M_run_82 (by decide) ?_
          exact PW_r (by simp [m_loop, m_tick, *]) (by simp [m_loop, m_tick, *]) (ih e _ hR he hE (Or.inr (show ¬ (2 : Int32) = 0 by decide)))
        · obtain ⟨x, hx, hat, hs⟩ := mstarts_ex hR.1.1 hR.1.2.1 c57
          have hxc : (μ 16 8).toNatClampNeg = x := by rw [hat]; exact nI_clamp (by have := hR.1.1; omega)
          refine P_aload_n d_M_run_60 rfl ?_
          refine cl_M_execute (c_M_execute _ _ x N hR.1.1 hR.1.2.1 hR.1.2.2.1 hR.1.2.2.2.1 hR.1.2.2.2.2 hx hs hat hR.2.1 hR.2.2) d_M_run_61 (Nat.le_of_ble_eq_true rfl) ?_
          refine P_aload_n d_M_run_64 rfl ?_
          refine P_dup d_M_run_65 ?_
          refine g_M_executed d_M_run_66 ?_
          refine P_top (y := nI e) (by rw [(exec_o μ x).2.2.2]; exact hE) ?_
          refine P_iconst (v := 1) d_M_run_69 (by decide) ?_
          refine P_iadd d_M_run_70 ?_
          refine P_top (y := nI (e + 1)) (nI_1 e) ?_
          refine s_M_executed d_M_run_71 ?_
          refine P_goto 32 d_M_run_74 (by decide) ?_
          have ht : m_tick μ = ss (m_exec μ x) 16 10 (nI (e + 1)) := by unfold m_tick; rw [if_neg c57, hxc, hE, nI_1]
          have hl : m_loop (n + 1) μ = m_loop n (m_tick μ) := by show (if _ then _ else _) = _; rw [hE, if_neg c39, if_pos c46]
          exact PW_r (by rw [hl, ht]) (by rw [hl, ht]) (ih (e + 1) _ (exec_RM hR) (by omega) rfl (hq.elim (fun q => Or.inl (by omega)) (fun q => absurd c46 q)))
set_option maxHeartbeats 400000 in
set_option maxRecDepth 10000 in
theorem c_M_run (σ μ : SG) (a : Int32) (N : Nat) (hR : N ≤ 64 ∧ μ 16 2 = nI N ∧ Chn (μ 17) (μ 18) N ∧ Gap (μ 17) (μ 18) N ∧ Opn (μ 17) (μ 18) N) : CF k_M_run [.inr 16, .inl a] (σ, μ) (some (if a < 0 then -1 else if a ≤ 63 then (m_fin (m_loop 200 (m_start μ a))) 16 9 else -1)) (σ, if a < 0 then μ else if a ≤ 63 then m_fin (m_loop 200 (m_start μ a)) else μ) := by
  refine CF.of rfl rfl (Nat.le_of_ble_eq_true rfl) (L := [some (.inr 16), some (.inl a)]) rfl ?_
  refine P_iload_n d_M_run_0 rfl ?_
  refine P_if_lt 10 d_M_run_1 (by decide) (fun c1 => ?_) (fun c1 => ?_)
  · refine P_iconst (v := (-1)) d_M_run_10 (by decide) ?_
    exact P_iret d_M_run_11 (by simp [*]) (by simp [*])
  · refine P_iload_n d_M_run_4 rfl ?_
    refine P_bipush (v := 63) d_M_run_5 (by decide) ?_
    refine P_icmp_le 12 d_M_run_7 (by decide) (fun c7 => ?_) (fun c7 => ?_)
    · refine P_aload_n d_M_run_12 rfl ?_
      refine P_iload_n d_M_run_13 rfl ?_
      refine s_M_at d_M_run_14 ?_
      refine P_aload_n d_M_run_17 rfl ?_
      refine P_iconst (v := 0) d_M_run_18 (by decide) ?_
      refine s_M_held d_M_run_19 ?_
      refine P_aload_n d_M_run_22 rfl ?_
      refine P_iconst (v := 0) d_M_run_23 (by decide) ?_
      refine s_M_executed d_M_run_24 ?_
      refine P_aload_n d_M_run_27 rfl ?_
      refine P_iconst (v := 0) d_M_run_28 (by decide) ?_
      refine s_M_ending d_M_run_29 ?_
      exact PW_r (by simp only [if_neg c1, if_pos c7]) (by simp only [if_neg c1, if_pos c7]) (lp_M_run σ a N 200 0 (m_start μ a) ⟨hR, (by decide : ¬ (0 : Int32) < 0), (by decide : (0 : Int32) ≤ 8)⟩ (by decide) rfl (Or.inl (by decide)))
    · refine P_iconst (v := (-1)) d_M_run_10 (by decide) ?_
      exact P_iret d_M_run_11 (by simp [*]) (by simp [*])
end
section
def wdH (ad : Nat → Nat) (cI cZ : ClassId) (σ : SG) : va_W := [(ad 0, .inr (0, [.int (σ 0 0), .ref (ad 1), .ref (ad 2), .ref (ad 3), .ref (ad 4), .ref (ad 5), .int (σ 0 6), .ref (ad 7), .ref (ad 8), .ref (ad 9), .ref (ad 10), .int (σ 0 11), .ref (ad 12), .int (σ 0 13), .int (σ 0 14), .int (σ 0 15)])),
  (ad 1, .inl (cI, 64, .inl (σ 1))),
  (ad 2, .inl (cI, 64, .inl (σ 2))),
  (ad 3, .inl (cZ, 64, .inl (σ 3))),
  (ad 4, .inl (cI, 64, .inl (σ 4))),
  (ad 5, .inl (cI, 64, .inl (σ 5))),
  (ad 7, .inl (cI, 4, .inl (σ 7))),
  (ad 8, .inl (cI, 4, .inl (σ 8))),
  (ad 9, .inl (cI, 4, .inl (σ 9))),
  (ad 10, .inl (cI, 4, .inl (σ 10))),
  (ad 12, .inl (cI, 8, .inl (σ 12)))]
def wdM (ad : Nat → Nat) (cI cZ : ClassId) (σ : SG) : va_W := [(ad 16, .inr (1, [.ref (ad 17), .ref (ad 18), .int (σ 16 2), .ref (ad 20), .ref (ad 21), .ref (ad 22), .ref (ad 23), .int (σ 16 7), .int (σ 16 8), .int (σ 16 9), .int (σ 16 10)])),
  (ad 17, .inl (cI, 64, .inl (σ 17))),
  (ad 18, .inl (cZ, 64, .inl (σ 18))),
  (ad 20, .inl (cI, 4, .inl (σ 20))),
  (ad 21, .inl (cZ, 64, .inl (σ 21))),
  (ad 22, .inl (cI, 64, .inl (σ 22))),
  (ad 23, .inl (cI, 8, .inl (σ 23)))]
theorem wd_app (ad : Nat → Nat) (cI cZ : ClassId) (σ μ : SG) : wd ad cI cZ (σ, μ) = wdH ad cI cZ σ ++ wdM ad cI cZ μ := rfl
theorem good_tb {y : MethodName} {b : ByteArray} {n : Nat} {r : Option FieldType} (h : Cond.code y b n r ∈ tb) : GoodIn tb (.code y b n r :: tb) := by
  intro w hw
  have hm : w ∈ tb := by rcases List.mem_cons.mp hw with rfl | q; exact h; exact q
  exact ⟨hm, good_of_word (lw_good w hm)⟩
def s0H : SG := fun c => if c = 7 then upd (upd (upd (upd (fun _ => 0) 0 (-1)) 1 (-1)) 2 (-1)) 3 (-1) else fun _ => 0
def s0M : SG := fun _ _ => 0
abbrev o_H : List Value := [.int 0, .null, .null, .null, .null, .null, .int 0, .null, .null, .null, .null, .int 0, .null, .int 0, .int 0, .int 0]
def adH (h0 q1 q2 q3 q4 q5 q7 q8 q9 q10 q12 : Nat) : Nat → Nat := fun c => match c with
  | 0 => h0
  | 1 => q1
  | 2 => q2
  | 3 => q3
  | 4 => q4
  | 5 => q5
  | 7 => q7
  | 8 => q8
  | 9 => q9
  | 10 => q10
  | 12 => q12
  | _ => 0
def at_H (D : va_G) (A : Nat → Prop) (h0 : Nat) (u : (Nat → Nat) × ClassId × ClassId) (t : State) : Prop := u.1 0 = h0 ∧ va_P D classes (wdH u.1 u.2.1 u.2.2 s0H) t.heap ∧ va_K D classes (tys2 u.2.1 u.2.2) t ∧ va_D A (wdH u.1 u.2.1 u.2.2 s0H)
set_option maxHeartbeats 4000000 in
set_option maxRecDepth 100000 in
theorem c_H_init (l : Launch) (dC : Nat → ClassId) (dI : Nat → Nat → Nat) (h0 sz : Nat) : Met l y_H_init (.code y_H_init b_H_init 2 none :: tb) ({ frames := 1, cells := 10, slots := 344, locals := 12 }) (va_Pc [.ref h0] (fun U => U.heap.size = sz ∧ va_P (dC, dI) classes [(h0, .inr (0, o_H))] U.heap ∧ va_K (dC, dI) classes [] U ∧ va_D (fun _ => True) [(h0, .inr (0, o_H))])) (va_Qv (fun _ : (Nat → Nat) × ClassId × ClassId => True) (at_H (dC, dI) (va_A [(h0, .inr (0, o_H))] sz) h0) (va_A [(h0, .inr (0, o_H))] sz)) 10 344 (va_A [(h0, .inr (0, o_H))] sz) := by
  refine Met.ofW (cc := b_H_init) (maxL := 2) (ret := none) (by decide) rfl ?_
  intro p e s m args below meth c s₁ B hml hv
  obtain ⟨rfl, hsz, hP, hK, hD0⟩ := hv
  have hx := B.exec
  have hb := B.bytes
  have hr := B.returns
  have hts0 := atoms_spec (ws := .code y_H_init b_H_init 2 none :: tb) B.pre
  have hts : ∀ w ∈ tb, w.before _ s = true := fun w hw => hts0 w (List.mem_cons_of_mem _ hw)
  have hown : s.vm.findClass R_H = some m.cls := findClass_of_methodNamed B.named
  have hlocks := B.notSynchronized
  have hin : meth.name = "<init>" := (name_of_methodNamed B.named B.method).1
  subst hsz
  have hD := hD0.self (sz := s.heap.size)
  generalize hAe : va_A [(h0, .inr (0, o_H))] s.heap.size = A at hD ⊢
  have hA : ∀ q : Nat, s.heap.size ≤ q → A q := fun q h => by rw [← hAe]; exact Or.inr h
  have hS : va_S A s.heap s.heap [] := va_S.rf
  have hl := lv_entry ([.ref h0]) (n := 2) (Nat.le_of_ble_eq_true rfl)
  rw [lg_entry_eq]
  generalize (lg_sl ([.ref h0]) ++ List.replicate (2 - (lg_sl ([.ref h0])).length) Slot.unset).toArray = ls at hl ⊢
  have hl : lv_has ls 2 [(0, .ref h0)] := hl
  refine lv_aload_n hx hb d_H_init_0 rfl (lv_at hl 0 rfl) ?_
  refine W.objInit hx hb hown (hts (.methodLink R_H 1 objectInit) (by decide +kernel)) (hts (.instanceMethod objectInit) (by decide +kernel)) (hts (.code objectInit ⟨#[0xb1]⟩ 1 none) (by decide +kernel)) rfl (by rw [hml]; exact hl.1) rfl d_H_init_1 (Nat.le_of_ble_eq_true rfl) (Nat.le_of_ble_eq_true rfl) ?_
  refine W.eq (g2 := F0 m 4 ls []) rfl ?_
  refine lv_aload_n hx hb d_H_init_4 rfl (lv_at hl 0 rfl) ?_
  refine lv_bipush (v := 64) hx hb d_H_init_5 (by decide) ?_
  refine va_newa (atype := .int) (ty := .int) (N' := 64) (a0 := (64, .inl (fun _ => 0))) hx hb (hts (.arrayClass .int) (by decide +kernel)) rfl hK hP hD hS hA (fun _ => rfl) (by decide) (by decide) (by decide) (Nat.le_of_ble_eq_true rfl) (Nat.le_of_ble_eq_true rfl) d_H_init_7 (fun q1 cN H hK hP hD hS => ?_)
  refine W.widen (k := 1) (n := 64) (Nat.le_refl _) (Nat.le_refl _) ?_
  obtain ⟨cI, rfl⟩ : ∃ z, z = cN := ⟨_, rfl⟩
  have hP : va_P (dC, dI) classes [(h0, .inr (0, [.int 0, .null, .null, .null, .null, .null, .int 0, .null, .null, .null, .null, .int 0, .null, .int 0, .int 0, .int 0])), (q1, .inl (cI, 64, .inl (fun _ => 0)))] H := hP
  have hD : va_D A [(h0, .inr (0, [.int 0, .null, .null, .null, .null, .null, .int 0, .null, .null, .null, .null, .int 0, .null, .int 0, .int 0, .int 0])), (q1, .inl (cI, 64, .inl (fun _ => 0)))] := hD
  refine va_putF (D := (dC, dI)) (ci := 0) (v := .ref q1) (ty := .array .int) (C := R_H) (T := F_H) (N := 16) hx hb hts i_H t_H t_H_ok n_H hown hK hP hD hS 0 rfl rfl 1 (by decide) (hts (.fieldLink R_H 7 "DetourHooker" "plain" "[I") (by decide +kernel)) (fun _ h9 => h9) rfl hin rfl (by decide +kernel) rfl rfl (Nat.le_of_ble_eq_true rfl) d_H_init_9 (fun H locs hP hD hS => ?_)
  have hP : va_P (dC, dI) classes [(h0, .inr (0, [.int 0, .ref q1, .null, .null, .null, .null, .int 0, .null, .null, .null, .null, .int 0, .null, .int 0, .int 0, .int 0])), (q1, .inl (cI, 64, .inl (fun _ => 0)))] H := hP
  have hD : va_D A [(h0, .inr (0, [.int 0, .ref q1, .null, .null, .null, .null, .int 0, .null, .null, .null, .null, .int 0, .null, .int 0, .int 0, .int 0])), (q1, .inl (cI, 64, .inl (fun _ => 0)))] := hD
  refine lv_aload_n hx hb d_H_init_12 rfl (lv_at hl 0 rfl) ?_
  refine lv_bipush (v := 64) hx hb d_H_init_13 (by decide) ?_
  refine va_newa (atype := .int) (ty := .int) (N' := 64) (a0 := (64, .inl (fun _ => 0))) hx hb (hts (.arrayClass .int) (by decide +kernel)) rfl hK hP hD hS hA (fun _ => rfl) (by decide) (by decide) (by decide) (Nat.le_of_ble_eq_true rfl) (Nat.le_of_ble_eq_true rfl) d_H_init_15 (fun q2 cN H hK hP hD hS => ?_)
  refine W.widen (k := 2) (n := 128) (Nat.le_refl _) (Nat.le_refl _) ?_
  obtain rfl : cI = cN := Option.some.inj ((va_nm_int (hK.2 0 _ rfl).2).symm.trans (va_nm_int (hK.2 1 _ rfl).2))
  have hK := hK.sub (tys' := [(cI, .int)]) [0] rfl
  have hP : va_P (dC, dI) classes [(h0, .inr (0, [.int 0, .ref q1, .null, .null, .null, .null, .int 0, .null, .null, .null, .null, .int 0, .null, .int 0, .int 0, .int 0])), (q1, .inl (cI, 64, .inl (fun _ => 0))), (q2, .inl (cI, 64, .inl (fun _ => 0)))] H := hP
  have hD : va_D A [(h0, .inr (0, [.int 0, .ref q1, .null, .null, .null, .null, .int 0, .null, .null, .null, .null, .int 0, .null, .int 0, .int 0, .int 0])), (q1, .inl (cI, 64, .inl (fun _ => 0))), (q2, .inl (cI, 64, .inl (fun _ => 0)))] := hD
  refine va_putF (D := (dC, dI)) (ci := 0) (v := .ref q2) (ty := .array .int) (C := R_H) (T := F_H) (N := 16) hx hb hts i_H t_H t_H_ok n_H hown hK hP hD hS 0 rfl rfl 2 (by decide) (hts (.fieldLink R_H 13 "DetourHooker" "code" "[I") (by decide +kernel)) (fun _ h9 => h9) rfl hin rfl (by decide +kernel) rfl rfl (Nat.le_of_ble_eq_true rfl) d_H_init_17 (fun H locs hP hD hS => ?_)
  have hP : va_P (dC, dI) classes [(h0, .inr (0, [.int 0, .ref q1, .ref q2, .null, .null, .null, .int 0, .null, .null, .null, .null, .int 0, .null, .int 0, .int 0, .int 0])), (q1, .inl (cI, 64, .inl (fun _ => 0))), (q2, .inl (cI, 64, .inl (fun _ => 0)))] H := hP
  have hD : va_D A [(h0, .inr (0, [.int 0, .ref q1, .ref q2, .null, .null, .null, .int 0, .null, .null, .null, .null, .int 0, .null, .int 0, .int 0, .int 0])), (q1, .inl (cI, 64, .inl (fun _ => 0))), (q2, .inl (cI, 64, .inl (fun _ => 0)))] := hD
  refine lv_aload_n hx hb d_H_init_20 rfl (lv_at hl 0 rfl) ?_
  refine lv_bipush (v := 64) hx hb d_H_init_21 (by decide) ?_
  refine va_newa (atype := .boolean) (ty := .boolean) (N' := 64) (a0 := (64, .inl (fun _ => 0))) hx hb (hts (.arrayClass .boolean) (by decide +kernel)) rfl hK hP hD hS hA (fun _ => rfl) (by decide) (by decide) (by decide) (Nat.le_of_ble_eq_true rfl) (Nat.le_of_ble_eq_true rfl) d_H_init_23 (fun q3 cN H hK hP hD hS => ?_)
  refine W.widen (k := 3) (n := 192) (Nat.le_refl _) (Nat.le_refl _) ?_
  obtain ⟨cZ, rfl⟩ : ∃ z, z = cN := ⟨_, rfl⟩
  have hP : va_P (dC, dI) classes [(h0, .inr (0, [.int 0, .ref q1, .ref q2, .null, .null, .null, .int 0, .null, .null, .null, .null, .int 0, .null, .int 0, .int 0, .int 0])), (q1, .inl (cI, 64, .inl (fun _ => 0))), (q2, .inl (cI, 64, .inl (fun _ => 0))), (q3, .inl (cZ, 64, .inl (fun _ => 0)))] H := hP
  have hD : va_D A [(h0, .inr (0, [.int 0, .ref q1, .ref q2, .null, .null, .null, .int 0, .null, .null, .null, .null, .int 0, .null, .int 0, .int 0, .int 0])), (q1, .inl (cI, 64, .inl (fun _ => 0))), (q2, .inl (cI, 64, .inl (fun _ => 0))), (q3, .inl (cZ, 64, .inl (fun _ => 0)))] := hD
  refine va_putF (D := (dC, dI)) (ci := 0) (v := .ref q3) (ty := .array .boolean) (C := R_H) (T := F_H) (N := 16) hx hb hts i_H t_H t_H_ok n_H hown hK hP hD hS 0 rfl rfl 3 (by decide) (hts (.fieldLink R_H 16 "DetourHooker" "starts" "[Z") (by decide +kernel)) (fun _ h9 => h9) rfl hin rfl (by decide +kernel) rfl rfl (Nat.le_of_ble_eq_true rfl) d_H_init_25 (fun H locs hP hD hS => ?_)
  have hP : va_P (dC, dI) classes [(h0, .inr (0, [.int 0, .ref q1, .ref q2, .ref q3, .null, .null, .int 0, .null, .null, .null, .null, .int 0, .null, .int 0, .int 0, .int 0])), (q1, .inl (cI, 64, .inl (fun _ => 0))), (q2, .inl (cI, 64, .inl (fun _ => 0))), (q3, .inl (cZ, 64, .inl (fun _ => 0)))] H := hP
  have hD : va_D A [(h0, .inr (0, [.int 0, .ref q1, .ref q2, .ref q3, .null, .null, .int 0, .null, .null, .null, .null, .int 0, .null, .int 0, .int 0, .int 0])), (q1, .inl (cI, 64, .inl (fun _ => 0))), (q2, .inl (cI, 64, .inl (fun _ => 0))), (q3, .inl (cZ, 64, .inl (fun _ => 0)))] := hD
  refine lv_aload_n hx hb d_H_init_28 rfl (lv_at hl 0 rfl) ?_
  refine lv_bipush (v := 64) hx hb d_H_init_29 (by decide) ?_
  refine va_newa (atype := .int) (ty := .int) (N' := 64) (a0 := (64, .inl (fun _ => 0))) hx hb (hts (.arrayClass .int) (by decide +kernel)) rfl hK hP hD hS hA (fun _ => rfl) (by decide) (by decide) (by decide) (Nat.le_of_ble_eq_true rfl) (Nat.le_of_ble_eq_true rfl) d_H_init_31 (fun q4 cN H hK hP hD hS => ?_)
  refine W.widen (k := 4) (n := 256) (Nat.le_refl _) (Nat.le_refl _) ?_
  obtain rfl : cI = cN := Option.some.inj ((va_nm_int (hK.2 0 _ rfl).2).symm.trans (va_nm_int (hK.2 2 _ rfl).2))
  have hK := hK.sub (tys' := [(cI, .int), (cZ, .boolean)]) [0, 1] rfl
  have hP : va_P (dC, dI) classes [(h0, .inr (0, [.int 0, .ref q1, .ref q2, .ref q3, .null, .null, .int 0, .null, .null, .null, .null, .int 0, .null, .int 0, .int 0, .int 0])), (q1, .inl (cI, 64, .inl (fun _ => 0))), (q2, .inl (cI, 64, .inl (fun _ => 0))), (q3, .inl (cZ, 64, .inl (fun _ => 0))), (q4, .inl (cI, 64, .inl (fun _ => 0)))] H := hP
  have hD : va_D A [(h0, .inr (0, [.int 0, .ref q1, .ref q2, .ref q3, .null, .null, .int 0, .null, .null, .null, .null, .int 0, .null, .int 0, .int 0, .int 0])), (q1, .inl (cI, 64, .inl (fun _ => 0))), (q2, .inl (cI, 64, .inl (fun _ => 0))), (q3, .inl (cZ, 64, .inl (fun _ => 0))), (q4, .inl (cI, 64, .inl (fun _ => 0)))] := hD
  refine va_putF (D := (dC, dI)) (ci := 0) (v := .ref q4) (ty := .array .int) (C := R_H) (T := F_H) (N := 16) hx hb hts i_H t_H t_H_ok n_H hown hK hP hD hS 0 rfl rfl 4 (by decide) (hts (.fieldLink R_H 20 "DetourHooker" "moved" "[I") (by decide +kernel)) (fun _ h9 => h9) rfl hin rfl (by decide +kernel) rfl rfl (Nat.le_of_ble_eq_true rfl) d_H_init_33 (fun H locs hP hD hS => ?_)
  have hP : va_P (dC, dI) classes [(h0, .inr (0, [.int 0, .ref q1, .ref q2, .ref q3, .ref q4, .null, .int 0, .null, .null, .null, .null, .int 0, .null, .int 0, .int 0, .int 0])), (q1, .inl (cI, 64, .inl (fun _ => 0))), (q2, .inl (cI, 64, .inl (fun _ => 0))), (q3, .inl (cZ, 64, .inl (fun _ => 0))), (q4, .inl (cI, 64, .inl (fun _ => 0)))] H := hP
  have hD : va_D A [(h0, .inr (0, [.int 0, .ref q1, .ref q2, .ref q3, .ref q4, .null, .int 0, .null, .null, .null, .null, .int 0, .null, .int 0, .int 0, .int 0])), (q1, .inl (cI, 64, .inl (fun _ => 0))), (q2, .inl (cI, 64, .inl (fun _ => 0))), (q3, .inl (cZ, 64, .inl (fun _ => 0))), (q4, .inl (cI, 64, .inl (fun _ => 0)))] := hD
  refine lv_aload_n hx hb d_H_init_36 rfl (lv_at hl 0 rfl) ?_
  refine lv_bipush (v := 64) hx hb d_H_init_37 (by decide) ?_
  refine va_newa (atype := .int) (ty := .int) (N' := 64) (a0 := (64, .inl (fun _ => 0))) hx hb (hts (.arrayClass .int) (by decide +kernel)) rfl hK hP hD hS hA (fun _ => rfl) (by decide) (by decide) (by decide) (Nat.le_of_ble_eq_true rfl) (Nat.le_of_ble_eq_true rfl) d_H_init_39 (fun q5 cN H hK hP hD hS => ?_)
  refine W.widen (k := 5) (n := 320) (Nat.le_refl _) (Nat.le_refl _) ?_
  obtain rfl : cI = cN := Option.some.inj ((va_nm_int (hK.2 0 _ rfl).2).symm.trans (va_nm_int (hK.2 2 _ rfl).2))
  have hK := hK.sub (tys' := [(cI, .int), (cZ, .boolean)]) [0, 1] rfl
  have hP : va_P (dC, dI) classes [(h0, .inr (0, [.int 0, .ref q1, .ref q2, .ref q3, .ref q4, .null, .int 0, .null, .null, .null, .null, .int 0, .null, .int 0, .int 0, .int 0])), (q1, .inl (cI, 64, .inl (fun _ => 0))), (q2, .inl (cI, 64, .inl (fun _ => 0))), (q3, .inl (cZ, 64, .inl (fun _ => 0))), (q4, .inl (cI, 64, .inl (fun _ => 0))), (q5, .inl (cI, 64, .inl (fun _ => 0)))] H := hP
  have hD : va_D A [(h0, .inr (0, [.int 0, .ref q1, .ref q2, .ref q3, .ref q4, .null, .int 0, .null, .null, .null, .null, .int 0, .null, .int 0, .int 0, .int 0])), (q1, .inl (cI, 64, .inl (fun _ => 0))), (q2, .inl (cI, 64, .inl (fun _ => 0))), (q3, .inl (cZ, 64, .inl (fun _ => 0))), (q4, .inl (cI, 64, .inl (fun _ => 0))), (q5, .inl (cI, 64, .inl (fun _ => 0)))] := hD
  refine va_putF (D := (dC, dI)) (ci := 0) (v := .ref q5) (ty := .array .int) (C := R_H) (T := F_H) (N := 16) hx hb hts i_H t_H t_H_ok n_H hown hK hP hD hS 0 rfl rfl 5 (by decide) (hts (.fieldLink R_H 23 "DetourHooker" "area" "[I") (by decide +kernel)) (fun _ h9 => h9) rfl hin rfl (by decide +kernel) rfl rfl (Nat.le_of_ble_eq_true rfl) d_H_init_41 (fun H locs hP hD hS => ?_)
  have hP : va_P (dC, dI) classes [(h0, .inr (0, [.int 0, .ref q1, .ref q2, .ref q3, .ref q4, .ref q5, .int 0, .null, .null, .null, .null, .int 0, .null, .int 0, .int 0, .int 0])), (q1, .inl (cI, 64, .inl (fun _ => 0))), (q2, .inl (cI, 64, .inl (fun _ => 0))), (q3, .inl (cZ, 64, .inl (fun _ => 0))), (q4, .inl (cI, 64, .inl (fun _ => 0))), (q5, .inl (cI, 64, .inl (fun _ => 0)))] H := hP
  have hD : va_D A [(h0, .inr (0, [.int 0, .ref q1, .ref q2, .ref q3, .ref q4, .ref q5, .int 0, .null, .null, .null, .null, .int 0, .null, .int 0, .int 0, .int 0])), (q1, .inl (cI, 64, .inl (fun _ => 0))), (q2, .inl (cI, 64, .inl (fun _ => 0))), (q3, .inl (cZ, 64, .inl (fun _ => 0))), (q4, .inl (cI, 64, .inl (fun _ => 0))), (q5, .inl (cI, 64, .inl (fun _ => 0)))] := hD
  refine lv_aload_n hx hb d_H_init_44 rfl (lv_at hl 0 rfl) ?_
  refine lv_iconst (v := 4) hx hb d_H_init_45 (by decide) ?_
  refine va_newa (atype := .int) (ty := .int) (N' := 4) (a0 := (4, .inl (fun _ => 0))) hx hb (hts (.arrayClass .int) (by decide +kernel)) rfl hK hP hD hS hA (fun _ => rfl) (by decide) (by decide) (by decide) (Nat.le_of_ble_eq_true rfl) (Nat.le_of_ble_eq_true rfl) d_H_init_46 (fun q7 cN H hK hP hD hS => ?_)
  refine W.widen (k := 6) (n := 324) (Nat.le_refl _) (Nat.le_refl _) ?_
  obtain rfl : cI = cN := Option.some.inj ((va_nm_int (hK.2 0 _ rfl).2).symm.trans (va_nm_int (hK.2 2 _ rfl).2))
  have hK := hK.sub (tys' := [(cI, .int), (cZ, .boolean)]) [0, 1] rfl
  have hP : va_P (dC, dI) classes [(h0, .inr (0, [.int 0, .ref q1, .ref q2, .ref q3, .ref q4, .ref q5, .int 0, .null, .null, .null, .null, .int 0, .null, .int 0, .int 0, .int 0])), (q1, .inl (cI, 64, .inl (fun _ => 0))), (q2, .inl (cI, 64, .inl (fun _ => 0))), (q3, .inl (cZ, 64, .inl (fun _ => 0))), (q4, .inl (cI, 64, .inl (fun _ => 0))), (q5, .inl (cI, 64, .inl (fun _ => 0))), (q7, .inl (cI, 4, .inl (fun _ => 0)))] H := hP
  have hD : va_D A [(h0, .inr (0, [.int 0, .ref q1, .ref q2, .ref q3, .ref q4, .ref q5, .int 0, .null, .null, .null, .null, .int 0, .null, .int 0, .int 0, .int 0])), (q1, .inl (cI, 64, .inl (fun _ => 0))), (q2, .inl (cI, 64, .inl (fun _ => 0))), (q3, .inl (cZ, 64, .inl (fun _ => 0))), (q4, .inl (cI, 64, .inl (fun _ => 0))), (q5, .inl (cI, 64, .inl (fun _ => 0))), (q7, .inl (cI, 4, .inl (fun _ => 0)))] := hD
  refine va_putF (D := (dC, dI)) (ci := 0) (v := .ref q7) (ty := .array .int) (C := R_H) (T := F_H) (N := 16) hx hb hts i_H t_H t_H_ok n_H hown hK hP hD hS 0 rfl rfl 7 (by decide) (hts (.fieldLink R_H 26 "DetourHooker" "hookAt" "[I") (by decide +kernel)) (fun _ h9 => h9) rfl hin rfl (by decide +kernel) rfl rfl (Nat.le_of_ble_eq_true rfl) d_H_init_48 (fun H locs hP hD hS => ?_)
  have hP : va_P (dC, dI) classes [(h0, .inr (0, [.int 0, .ref q1, .ref q2, .ref q3, .ref q4, .ref q5, .int 0, .ref q7, .null, .null, .null, .int 0, .null, .int 0, .int 0, .int 0])), (q1, .inl (cI, 64, .inl (fun _ => 0))), (q2, .inl (cI, 64, .inl (fun _ => 0))), (q3, .inl (cZ, 64, .inl (fun _ => 0))), (q4, .inl (cI, 64, .inl (fun _ => 0))), (q5, .inl (cI, 64, .inl (fun _ => 0))), (q7, .inl (cI, 4, .inl (fun _ => 0)))] H := hP
  have hD : va_D A [(h0, .inr (0, [.int 0, .ref q1, .ref q2, .ref q3, .ref q4, .ref q5, .int 0, .ref q7, .null, .null, .null, .int 0, .null, .int 0, .int 0, .int 0])), (q1, .inl (cI, 64, .inl (fun _ => 0))), (q2, .inl (cI, 64, .inl (fun _ => 0))), (q3, .inl (cZ, 64, .inl (fun _ => 0))), (q4, .inl (cI, 64, .inl (fun _ => 0))), (q5, .inl (cI, 64, .inl (fun _ => 0))), (q7, .inl (cI, 4, .inl (fun _ => 0)))] := hD
  refine lv_aload_n hx hb d_H_init_51 rfl (lv_at hl 0 rfl) ?_
  refine lv_iconst (v := 4) hx hb d_H_init_52 (by decide) ?_
  refine va_newa (atype := .int) (ty := .int) (N' := 4) (a0 := (4, .inl (fun _ => 0))) hx hb (hts (.arrayClass .int) (by decide +kernel)) rfl hK hP hD hS hA (fun _ => rfl) (by decide) (by decide) (by decide) (Nat.le_of_ble_eq_true rfl) (Nat.le_of_ble_eq_true rfl) d_H_init_53 (fun q8 cN H hK hP hD hS => ?_)
  refine W.widen (k := 7) (n := 328) (Nat.le_refl _) (Nat.le_refl _) ?_
  obtain rfl : cI = cN := Option.some.inj ((va_nm_int (hK.2 0 _ rfl).2).symm.trans (va_nm_int (hK.2 2 _ rfl).2))
  have hK := hK.sub (tys' := [(cI, .int), (cZ, .boolean)]) [0, 1] rfl
  have hP : va_P (dC, dI) classes [(h0, .inr (0, [.int 0, .ref q1, .ref q2, .ref q3, .ref q4, .ref q5, .int 0, .ref q7, .null, .null, .null, .int 0, .null, .int 0, .int 0, .int 0])), (q1, .inl (cI, 64, .inl (fun _ => 0))), (q2, .inl (cI, 64, .inl (fun _ => 0))), (q3, .inl (cZ, 64, .inl (fun _ => 0))), (q4, .inl (cI, 64, .inl (fun _ => 0))), (q5, .inl (cI, 64, .inl (fun _ => 0))), (q7, .inl (cI, 4, .inl (fun _ => 0))), (q8, .inl (cI, 4, .inl (fun _ => 0)))] H := hP
  have hD : va_D A [(h0, .inr (0, [.int 0, .ref q1, .ref q2, .ref q3, .ref q4, .ref q5, .int 0, .ref q7, .null, .null, .null, .int 0, .null, .int 0, .int 0, .int 0])), (q1, .inl (cI, 64, .inl (fun _ => 0))), (q2, .inl (cI, 64, .inl (fun _ => 0))), (q3, .inl (cZ, 64, .inl (fun _ => 0))), (q4, .inl (cI, 64, .inl (fun _ => 0))), (q5, .inl (cI, 64, .inl (fun _ => 0))), (q7, .inl (cI, 4, .inl (fun _ => 0))), (q8, .inl (cI, 4, .inl (fun _ => 0)))] := hD
  refine va_putF (D := (dC, dI)) (ci := 0) (v := .ref q8) (ty := .array .int) (C := R_H) (T := F_H) (N := 16) hx hb hts i_H t_H t_H_ok n_H hown hK hP hD hS 0 rfl rfl 8 (by decide) (hts (.fieldLink R_H 29 "DetourHooker" "headLength" "[I") (by decide +kernel)) (fun _ h9 => h9) rfl hin rfl (by decide +kernel) rfl rfl (Nat.le_of_ble_eq_true rfl) d_H_init_55 (fun H locs hP hD hS => ?_)
  have hP : va_P (dC, dI) classes [(h0, .inr (0, [.int 0, .ref q1, .ref q2, .ref q3, .ref q4, .ref q5, .int 0, .ref q7, .ref q8, .null, .null, .int 0, .null, .int 0, .int 0, .int 0])), (q1, .inl (cI, 64, .inl (fun _ => 0))), (q2, .inl (cI, 64, .inl (fun _ => 0))), (q3, .inl (cZ, 64, .inl (fun _ => 0))), (q4, .inl (cI, 64, .inl (fun _ => 0))), (q5, .inl (cI, 64, .inl (fun _ => 0))), (q7, .inl (cI, 4, .inl (fun _ => 0))), (q8, .inl (cI, 4, .inl (fun _ => 0)))] H := hP
  have hD : va_D A [(h0, .inr (0, [.int 0, .ref q1, .ref q2, .ref q3, .ref q4, .ref q5, .int 0, .ref q7, .ref q8, .null, .null, .int 0, .null, .int 0, .int 0, .int 0])), (q1, .inl (cI, 64, .inl (fun _ => 0))), (q2, .inl (cI, 64, .inl (fun _ => 0))), (q3, .inl (cZ, 64, .inl (fun _ => 0))), (q4, .inl (cI, 64, .inl (fun _ => 0))), (q5, .inl (cI, 64, .inl (fun _ => 0))), (q7, .inl (cI, 4, .inl (fun _ => 0))), (q8, .inl (cI, 4, .inl (fun _ => 0)))] := hD
  refine lv_aload_n hx hb d_H_init_58 rfl (lv_at hl 0 rfl) ?_
  refine lv_iconst (v := 4) hx hb d_H_init_59 (by decide) ?_
  refine va_newa (atype := .int) (ty := .int) (N' := 4) (a0 := (4, .inl (fun _ => 0))) hx hb (hts (.arrayClass .int) (by decide +kernel)) rfl hK hP hD hS hA (fun _ => rfl) (by decide) (by decide) (by decide) (Nat.le_of_ble_eq_true rfl) (Nat.le_of_ble_eq_true rfl) d_H_init_60 (fun q9 cN H hK hP hD hS => ?_)
  refine W.widen (k := 8) (n := 332) (Nat.le_refl _) (Nat.le_refl _) ?_
  obtain rfl : cI = cN := Option.some.inj ((va_nm_int (hK.2 0 _ rfl).2).symm.trans (va_nm_int (hK.2 2 _ rfl).2))
  have hK := hK.sub (tys' := [(cI, .int), (cZ, .boolean)]) [0, 1] rfl
  have hP : va_P (dC, dI) classes [(h0, .inr (0, [.int 0, .ref q1, .ref q2, .ref q3, .ref q4, .ref q5, .int 0, .ref q7, .ref q8, .null, .null, .int 0, .null, .int 0, .int 0, .int 0])), (q1, .inl (cI, 64, .inl (fun _ => 0))), (q2, .inl (cI, 64, .inl (fun _ => 0))), (q3, .inl (cZ, 64, .inl (fun _ => 0))), (q4, .inl (cI, 64, .inl (fun _ => 0))), (q5, .inl (cI, 64, .inl (fun _ => 0))), (q7, .inl (cI, 4, .inl (fun _ => 0))), (q8, .inl (cI, 4, .inl (fun _ => 0))), (q9, .inl (cI, 4, .inl (fun _ => 0)))] H := hP
  have hD : va_D A [(h0, .inr (0, [.int 0, .ref q1, .ref q2, .ref q3, .ref q4, .ref q5, .int 0, .ref q7, .ref q8, .null, .null, .int 0, .null, .int 0, .int 0, .int 0])), (q1, .inl (cI, 64, .inl (fun _ => 0))), (q2, .inl (cI, 64, .inl (fun _ => 0))), (q3, .inl (cZ, 64, .inl (fun _ => 0))), (q4, .inl (cI, 64, .inl (fun _ => 0))), (q5, .inl (cI, 64, .inl (fun _ => 0))), (q7, .inl (cI, 4, .inl (fun _ => 0))), (q8, .inl (cI, 4, .inl (fun _ => 0))), (q9, .inl (cI, 4, .inl (fun _ => 0)))] := hD
  refine va_putF (D := (dC, dI)) (ci := 0) (v := .ref q9) (ty := .array .int) (C := R_H) (T := F_H) (N := 16) hx hb hts i_H t_H t_H_ok n_H hown hK hP hD hS 0 rfl rfl 9 (by decide) (hts (.fieldLink R_H 32 "DetourHooker" "count" "[I") (by decide +kernel)) (fun _ h9 => h9) rfl hin rfl (by decide +kernel) rfl rfl (Nat.le_of_ble_eq_true rfl) d_H_init_62 (fun H locs hP hD hS => ?_)
  have hP : va_P (dC, dI) classes [(h0, .inr (0, [.int 0, .ref q1, .ref q2, .ref q3, .ref q4, .ref q5, .int 0, .ref q7, .ref q8, .ref q9, .null, .int 0, .null, .int 0, .int 0, .int 0])), (q1, .inl (cI, 64, .inl (fun _ => 0))), (q2, .inl (cI, 64, .inl (fun _ => 0))), (q3, .inl (cZ, 64, .inl (fun _ => 0))), (q4, .inl (cI, 64, .inl (fun _ => 0))), (q5, .inl (cI, 64, .inl (fun _ => 0))), (q7, .inl (cI, 4, .inl (fun _ => 0))), (q8, .inl (cI, 4, .inl (fun _ => 0))), (q9, .inl (cI, 4, .inl (fun _ => 0)))] H := hP
  have hD : va_D A [(h0, .inr (0, [.int 0, .ref q1, .ref q2, .ref q3, .ref q4, .ref q5, .int 0, .ref q7, .ref q8, .ref q9, .null, .int 0, .null, .int 0, .int 0, .int 0])), (q1, .inl (cI, 64, .inl (fun _ => 0))), (q2, .inl (cI, 64, .inl (fun _ => 0))), (q3, .inl (cZ, 64, .inl (fun _ => 0))), (q4, .inl (cI, 64, .inl (fun _ => 0))), (q5, .inl (cI, 64, .inl (fun _ => 0))), (q7, .inl (cI, 4, .inl (fun _ => 0))), (q8, .inl (cI, 4, .inl (fun _ => 0))), (q9, .inl (cI, 4, .inl (fun _ => 0)))] := hD
  refine lv_aload_n hx hb d_H_init_65 rfl (lv_at hl 0 rfl) ?_
  refine lv_iconst (v := 4) hx hb d_H_init_66 (by decide) ?_
  refine va_newa (atype := .int) (ty := .int) (N' := 4) (a0 := (4, .inl (fun _ => 0))) hx hb (hts (.arrayClass .int) (by decide +kernel)) rfl hK hP hD hS hA (fun _ => rfl) (by decide) (by decide) (by decide) (Nat.le_of_ble_eq_true rfl) (Nat.le_of_ble_eq_true rfl) d_H_init_67 (fun q10 cN H hK hP hD hS => ?_)
  refine W.widen (k := 9) (n := 336) (Nat.le_refl _) (Nat.le_refl _) ?_
  obtain rfl : cI = cN := Option.some.inj ((va_nm_int (hK.2 0 _ rfl).2).symm.trans (va_nm_int (hK.2 2 _ rfl).2))
  have hK := hK.sub (tys' := [(cI, .int), (cZ, .boolean)]) [0, 1] rfl
  have hP : va_P (dC, dI) classes [(h0, .inr (0, [.int 0, .ref q1, .ref q2, .ref q3, .ref q4, .ref q5, .int 0, .ref q7, .ref q8, .ref q9, .null, .int 0, .null, .int 0, .int 0, .int 0])), (q1, .inl (cI, 64, .inl (fun _ => 0))), (q2, .inl (cI, 64, .inl (fun _ => 0))), (q3, .inl (cZ, 64, .inl (fun _ => 0))), (q4, .inl (cI, 64, .inl (fun _ => 0))), (q5, .inl (cI, 64, .inl (fun _ => 0))), (q7, .inl (cI, 4, .inl (fun _ => 0))), (q8, .inl (cI, 4, .inl (fun _ => 0))), (q9, .inl (cI, 4, .inl (fun _ => 0))), (q10, .inl (cI, 4, .inl (fun _ => 0)))] H := hP
  have hD : va_D A [(h0, .inr (0, [.int 0, .ref q1, .ref q2, .ref q3, .ref q4, .ref q5, .int 0, .ref q7, .ref q8, .ref q9, .null, .int 0, .null, .int 0, .int 0, .int 0])), (q1, .inl (cI, 64, .inl (fun _ => 0))), (q2, .inl (cI, 64, .inl (fun _ => 0))), (q3, .inl (cZ, 64, .inl (fun _ => 0))), (q4, .inl (cI, 64, .inl (fun _ => 0))), (q5, .inl (cI, 64, .inl (fun _ => 0))), (q7, .inl (cI, 4, .inl (fun _ => 0))), (q8, .inl (cI, 4, .inl (fun _ => 0))), (q9, .inl (cI, 4, .inl (fun _ => 0))), (q10, .inl (cI, 4, .inl (fun _ => 0)))] := hD
  refine va_putF (D := (dC, dI)) (ci := 0) (v := .ref q10) (ty := .array .int) (C := R_H) (T := F_H) (N := 16) hx hb hts i_H t_H t_H_ok n_H hown hK hP hD hS 0 rfl rfl 10 (by decide) (hts (.fieldLink R_H 35 "DetourHooker" "reg" "[I") (by decide +kernel)) (fun _ h9 => h9) rfl hin rfl (by decide +kernel) rfl rfl (Nat.le_of_ble_eq_true rfl) d_H_init_69 (fun H locs hP hD hS => ?_)
  have hP : va_P (dC, dI) classes [(h0, .inr (0, [.int 0, .ref q1, .ref q2, .ref q3, .ref q4, .ref q5, .int 0, .ref q7, .ref q8, .ref q9, .ref q10, .int 0, .null, .int 0, .int 0, .int 0])), (q1, .inl (cI, 64, .inl (fun _ => 0))), (q2, .inl (cI, 64, .inl (fun _ => 0))), (q3, .inl (cZ, 64, .inl (fun _ => 0))), (q4, .inl (cI, 64, .inl (fun _ => 0))), (q5, .inl (cI, 64, .inl (fun _ => 0))), (q7, .inl (cI, 4, .inl (fun _ => 0))), (q8, .inl (cI, 4, .inl (fun _ => 0))), (q9, .inl (cI, 4, .inl (fun _ => 0))), (q10, .inl (cI, 4, .inl (fun _ => 0)))] H := hP
  have hD : va_D A [(h0, .inr (0, [.int 0, .ref q1, .ref q2, .ref q3, .ref q4, .ref q5, .int 0, .ref q7, .ref q8, .ref q9, .ref q10, .int 0, .null, .int 0, .int 0, .int 0])), (q1, .inl (cI, 64, .inl (fun _ => 0))), (q2, .inl (cI, 64, .inl (fun _ => 0))), (q3, .inl (cZ, 64, .inl (fun _ => 0))), (q4, .inl (cI, 64, .inl (fun _ => 0))), (q5, .inl (cI, 64, .inl (fun _ => 0))), (q7, .inl (cI, 4, .inl (fun _ => 0))), (q8, .inl (cI, 4, .inl (fun _ => 0))), (q9, .inl (cI, 4, .inl (fun _ => 0))), (q10, .inl (cI, 4, .inl (fun _ => 0)))] := hD
  refine lv_aload_n hx hb d_H_init_72 rfl (lv_at hl 0 rfl) ?_
  refine lv_bipush (v := 8) hx hb d_H_init_73 (by decide) ?_
  refine va_newa (atype := .int) (ty := .int) (N' := 8) (a0 := (8, .inl (fun _ => 0))) hx hb (hts (.arrayClass .int) (by decide +kernel)) rfl hK hP hD hS hA (fun _ => rfl) (by decide) (by decide) (by decide) (Nat.le_of_ble_eq_true rfl) (Nat.le_of_ble_eq_true rfl) d_H_init_75 (fun q12 cN H hK hP hD hS => ?_)
  refine W.widen (k := 10) (n := 344) (Nat.le_refl _) (Nat.le_refl _) ?_
  obtain rfl : cI = cN := Option.some.inj ((va_nm_int (hK.2 0 _ rfl).2).symm.trans (va_nm_int (hK.2 2 _ rfl).2))
  have hK := hK.sub (tys' := [(cI, .int), (cZ, .boolean)]) [0, 1] rfl
  have hP : va_P (dC, dI) classes [(h0, .inr (0, [.int 0, .ref q1, .ref q2, .ref q3, .ref q4, .ref q5, .int 0, .ref q7, .ref q8, .ref q9, .ref q10, .int 0, .null, .int 0, .int 0, .int 0])), (q1, .inl (cI, 64, .inl (fun _ => 0))), (q2, .inl (cI, 64, .inl (fun _ => 0))), (q3, .inl (cZ, 64, .inl (fun _ => 0))), (q4, .inl (cI, 64, .inl (fun _ => 0))), (q5, .inl (cI, 64, .inl (fun _ => 0))), (q7, .inl (cI, 4, .inl (fun _ => 0))), (q8, .inl (cI, 4, .inl (fun _ => 0))), (q9, .inl (cI, 4, .inl (fun _ => 0))), (q10, .inl (cI, 4, .inl (fun _ => 0))), (q12, .inl (cI, 8, .inl (fun _ => 0)))] H := hP
  have hD : va_D A [(h0, .inr (0, [.int 0, .ref q1, .ref q2, .ref q3, .ref q4, .ref q5, .int 0, .ref q7, .ref q8, .ref q9, .ref q10, .int 0, .null, .int 0, .int 0, .int 0])), (q1, .inl (cI, 64, .inl (fun _ => 0))), (q2, .inl (cI, 64, .inl (fun _ => 0))), (q3, .inl (cZ, 64, .inl (fun _ => 0))), (q4, .inl (cI, 64, .inl (fun _ => 0))), (q5, .inl (cI, 64, .inl (fun _ => 0))), (q7, .inl (cI, 4, .inl (fun _ => 0))), (q8, .inl (cI, 4, .inl (fun _ => 0))), (q9, .inl (cI, 4, .inl (fun _ => 0))), (q10, .inl (cI, 4, .inl (fun _ => 0))), (q12, .inl (cI, 8, .inl (fun _ => 0)))] := hD
  refine va_putF (D := (dC, dI)) (ci := 0) (v := .ref q12) (ty := .array .int) (C := R_H) (T := F_H) (N := 16) hx hb hts i_H t_H t_H_ok n_H hown hK hP hD hS 0 rfl rfl 12 (by decide) (hts (.fieldLink R_H 38 "DetourHooker" "stack" "[I") (by decide +kernel)) (fun _ h9 => h9) rfl hin rfl (by decide +kernel) rfl rfl (Nat.le_of_ble_eq_true rfl) d_H_init_77 (fun H locs hP hD hS => ?_)
  have hP : va_P (dC, dI) classes [(h0, .inr (0, [.int 0, .ref q1, .ref q2, .ref q3, .ref q4, .ref q5, .int 0, .ref q7, .ref q8, .ref q9, .ref q10, .int 0, .ref q12, .int 0, .int 0, .int 0])), (q1, .inl (cI, 64, .inl (fun _ => 0))), (q2, .inl (cI, 64, .inl (fun _ => 0))), (q3, .inl (cZ, 64, .inl (fun _ => 0))), (q4, .inl (cI, 64, .inl (fun _ => 0))), (q5, .inl (cI, 64, .inl (fun _ => 0))), (q7, .inl (cI, 4, .inl (fun _ => 0))), (q8, .inl (cI, 4, .inl (fun _ => 0))), (q9, .inl (cI, 4, .inl (fun _ => 0))), (q10, .inl (cI, 4, .inl (fun _ => 0))), (q12, .inl (cI, 8, .inl (fun _ => 0)))] H := hP
  have hD : va_D A [(h0, .inr (0, [.int 0, .ref q1, .ref q2, .ref q3, .ref q4, .ref q5, .int 0, .ref q7, .ref q8, .ref q9, .ref q10, .int 0, .ref q12, .int 0, .int 0, .int 0])), (q1, .inl (cI, 64, .inl (fun _ => 0))), (q2, .inl (cI, 64, .inl (fun _ => 0))), (q3, .inl (cZ, 64, .inl (fun _ => 0))), (q4, .inl (cI, 64, .inl (fun _ => 0))), (q5, .inl (cI, 64, .inl (fun _ => 0))), (q7, .inl (cI, 4, .inl (fun _ => 0))), (q8, .inl (cI, 4, .inl (fun _ => 0))), (q9, .inl (cI, 4, .inl (fun _ => 0))), (q10, .inl (cI, 4, .inl (fun _ => 0))), (q12, .inl (cI, 8, .inl (fun _ => 0)))] := hD
  refine lv_iconst (v := 0) hx hb d_H_init_80 (by decide) ?_
  refine lv_istore_n (lv' := [(1, .int 0), (0, .ref h0)]) hx hb d_H_init_81 rfl hl (by decide) rfl (fun ls hl => ?_)
  refine lv_iload_n hx hb d_H_init_82 rfl (lv_at hl 0 rfl) ?_
  refine lv_iconst (v := 4) hx hb d_H_init_83 (by decide) ?_
  refine lv_icmp_ge (tgt := 100) hx hb d_H_init_84 (by decide) (fun hc => absurd hc (by decide)) (fun _ => ?_)
  refine lv_aload_n hx hb d_H_init_87 rfl (lv_at hl 1 rfl) ?_
  refine va_get (D := (dC, dI)) (ci := 0) (v := .ref q7) (C := R_H) (T := F_H) (N := 16) hx hb hts i_H hown hK hP 0 rfl rfl 7 (by decide) (hts (.fieldLink R_H 26 "DetourHooker" "hookAt" "[I") (by decide +kernel)) (fun _ h9 => h9) rfl d_H_init_88 ?_
  refine lv_iload_n hx hb d_H_init_91 rfl (lv_at hl 0 rfl) ?_
  refine lv_iconst (v := (-1)) hx hb d_H_init_92 (by decide) ?_
  refine va_iast hx hb hK hP hD hS 6 0 rfl rfl (vp_in_nI (n := 0) (by decide) (by decide)) d_H_init_93 (fun H locs hP hD hS => ?_)
  have hP : va_P (dC, dI) classes [(h0, .inr (0, [.int 0, .ref q1, .ref q2, .ref q3, .ref q4, .ref q5, .int 0, .ref q7, .ref q8, .ref q9, .ref q10, .int 0, .ref q12, .int 0, .int 0, .int 0])), (q1, .inl (cI, 64, .inl (fun _ => 0))), (q2, .inl (cI, 64, .inl (fun _ => 0))), (q3, .inl (cZ, 64, .inl (fun _ => 0))), (q4, .inl (cI, 64, .inl (fun _ => 0))), (q5, .inl (cI, 64, .inl (fun _ => 0))), (q7, .inl (cI, 4, .inl (upd (fun _ => 0) 0 (-1)))), (q8, .inl (cI, 4, .inl (fun _ => 0))), (q9, .inl (cI, 4, .inl (fun _ => 0))), (q10, .inl (cI, 4, .inl (fun _ => 0))), (q12, .inl (cI, 8, .inl (fun _ => 0)))] H := hP
  have hD : va_D A [(h0, .inr (0, [.int 0, .ref q1, .ref q2, .ref q3, .ref q4, .ref q5, .int 0, .ref q7, .ref q8, .ref q9, .ref q10, .int 0, .ref q12, .int 0, .int 0, .int 0])), (q1, .inl (cI, 64, .inl (fun _ => 0))), (q2, .inl (cI, 64, .inl (fun _ => 0))), (q3, .inl (cZ, 64, .inl (fun _ => 0))), (q4, .inl (cI, 64, .inl (fun _ => 0))), (q5, .inl (cI, 64, .inl (fun _ => 0))), (q7, .inl (cI, 4, .inl (upd (fun _ => 0) 0 (-1)))), (q8, .inl (cI, 4, .inl (fun _ => 0))), (q9, .inl (cI, 4, .inl (fun _ => 0))), (q10, .inl (cI, 4, .inl (fun _ => 0))), (q12, .inl (cI, 8, .inl (fun _ => 0)))] := hD
  refine lv_iinc (v := 1) (lv' := [(1, .int 1), (0, .ref h0)]) hx hb d_H_init_94 hl (k := 0) rfl (by decide) (by decide) rfl (fun ls hl => ?_)
  refine lv_goto (tgt := 82) hx hb d_H_init_97 (by decide) ?_
  refine lv_iload_n hx hb d_H_init_82 rfl (lv_at hl 0 rfl) ?_
  refine lv_iconst (v := 4) hx hb d_H_init_83 (by decide) ?_
  refine lv_icmp_ge (tgt := 100) hx hb d_H_init_84 (by decide) (fun hc => absurd hc (by decide)) (fun _ => ?_)
  refine lv_aload_n hx hb d_H_init_87 rfl (lv_at hl 1 rfl) ?_
  refine va_get (D := (dC, dI)) (ci := 0) (v := .ref q7) (C := R_H) (T := F_H) (N := 16) hx hb hts i_H hown hK hP 0 rfl rfl 7 (by decide) (hts (.fieldLink R_H 26 "DetourHooker" "hookAt" "[I") (by decide +kernel)) (fun _ h9 => h9) rfl d_H_init_88 ?_
  refine lv_iload_n hx hb d_H_init_91 rfl (lv_at hl 0 rfl) ?_
  refine lv_iconst (v := (-1)) hx hb d_H_init_92 (by decide) ?_
  refine va_iast hx hb hK hP hD hS 6 0 rfl rfl (vp_in_nI (n := 1) (by decide) (by decide)) d_H_init_93 (fun H locs hP hD hS => ?_)
  have hP : va_P (dC, dI) classes [(h0, .inr (0, [.int 0, .ref q1, .ref q2, .ref q3, .ref q4, .ref q5, .int 0, .ref q7, .ref q8, .ref q9, .ref q10, .int 0, .ref q12, .int 0, .int 0, .int 0])), (q1, .inl (cI, 64, .inl (fun _ => 0))), (q2, .inl (cI, 64, .inl (fun _ => 0))), (q3, .inl (cZ, 64, .inl (fun _ => 0))), (q4, .inl (cI, 64, .inl (fun _ => 0))), (q5, .inl (cI, 64, .inl (fun _ => 0))), (q7, .inl (cI, 4, .inl (upd (upd (fun _ => 0) 0 (-1)) 1 (-1)))), (q8, .inl (cI, 4, .inl (fun _ => 0))), (q9, .inl (cI, 4, .inl (fun _ => 0))), (q10, .inl (cI, 4, .inl (fun _ => 0))), (q12, .inl (cI, 8, .inl (fun _ => 0)))] H := hP
  have hD : va_D A [(h0, .inr (0, [.int 0, .ref q1, .ref q2, .ref q3, .ref q4, .ref q5, .int 0, .ref q7, .ref q8, .ref q9, .ref q10, .int 0, .ref q12, .int 0, .int 0, .int 0])), (q1, .inl (cI, 64, .inl (fun _ => 0))), (q2, .inl (cI, 64, .inl (fun _ => 0))), (q3, .inl (cZ, 64, .inl (fun _ => 0))), (q4, .inl (cI, 64, .inl (fun _ => 0))), (q5, .inl (cI, 64, .inl (fun _ => 0))), (q7, .inl (cI, 4, .inl (upd (upd (fun _ => 0) 0 (-1)) 1 (-1)))), (q8, .inl (cI, 4, .inl (fun _ => 0))), (q9, .inl (cI, 4, .inl (fun _ => 0))), (q10, .inl (cI, 4, .inl (fun _ => 0))), (q12, .inl (cI, 8, .inl (fun _ => 0)))] := hD
  refine lv_iinc (v := 2) (lv' := [(1, .int 2), (0, .ref h0)]) hx hb d_H_init_94 hl (k := 0) rfl (by decide) (by decide) rfl (fun ls hl => ?_)
  refine lv_goto (tgt := 82) hx hb d_H_init_97 (by decide) ?_
  refine lv_iload_n hx hb d_H_init_82 rfl (lv_at hl 0 rfl) ?_
  refine lv_iconst (v := 4) hx hb d_H_init_83 (by decide) ?_
  refine lv_icmp_ge (tgt := 100) hx hb d_H_init_84 (by decide) (fun hc => absurd hc (by decide)) (fun _ => ?_)
  refine lv_aload_n hx hb d_H_init_87 rfl (lv_at hl 1 rfl) ?_
  refine va_get (D := (dC, dI)) (ci := 0) (v := .ref q7) (C := R_H) (T := F_H) (N := 16) hx hb hts i_H hown hK hP 0 rfl rfl 7 (by decide) (hts (.fieldLink R_H 26 "DetourHooker" "hookAt" "[I") (by decide +kernel)) (fun _ h9 => h9) rfl d_H_init_88 ?_
  refine lv_iload_n hx hb d_H_init_91 rfl (lv_at hl 0 rfl) ?_
  refine lv_iconst (v := (-1)) hx hb d_H_init_92 (by decide) ?_
  refine va_iast hx hb hK hP hD hS 6 0 rfl rfl (vp_in_nI (n := 2) (by decide) (by decide)) d_H_init_93 (fun H locs hP hD hS => ?_)
  have hP : va_P (dC, dI) classes [(h0, .inr (0, [.int 0, .ref q1, .ref q2, .ref q3, .ref q4, .ref q5, .int 0, .ref q7, .ref q8, .ref q9, .ref q10, .int 0, .ref q12, .int 0, .int 0, .int 0])), (q1, .inl (cI, 64, .inl (fun _ => 0))), (q2, .inl (cI, 64, .inl (fun _ => 0))), (q3, .inl (cZ, 64, .inl (fun _ => 0))), (q4, .inl (cI, 64, .inl (fun _ => 0))), (q5, .inl (cI, 64, .inl (fun _ => 0))), (q7, .inl (cI, 4, .inl (upd (upd (upd (fun _ => 0) 0 (-1)) 1 (-1)) 2 (-1)))), (q8, .inl (cI, 4, .inl (fun _ => 0))), (q9, .inl (cI, 4, .inl (fun _ => 0))), (q10, .inl (cI, 4, .inl (fun _ => 0))), (q12, .inl (cI, 8, .inl (fun _ => 0)))] H := hP
  have hD : va_D A [(h0, .inr (0, [.int 0, .ref q1, .ref q2, .ref q3, .ref q4, .ref q5, .int 0, .ref q7, .ref q8, .ref q9, .ref q10, .int 0, .ref q12, .int 0, .int 0, .int 0])), (q1, .inl (cI, 64, .inl (fun _ => 0))), (q2, .inl (cI, 64, .inl (fun _ => 0))), (q3, .inl (cZ, 64, .inl (fun _ => 0))), (q4, .inl (cI, 64, .inl (fun _ => 0))), (q5, .inl (cI, 64, .inl (fun _ => 0))), (q7, .inl (cI, 4, .inl (upd (upd (upd (fun _ => 0) 0 (-1)) 1 (-1)) 2 (-1)))), (q8, .inl (cI, 4, .inl (fun _ => 0))), (q9, .inl (cI, 4, .inl (fun _ => 0))), (q10, .inl (cI, 4, .inl (fun _ => 0))), (q12, .inl (cI, 8, .inl (fun _ => 0)))] := hD
  refine lv_iinc (v := 3) (lv' := [(1, .int 3), (0, .ref h0)]) hx hb d_H_init_94 hl (k := 0) rfl (by decide) (by decide) rfl (fun ls hl => ?_)
  refine lv_goto (tgt := 82) hx hb d_H_init_97 (by decide) ?_
  refine lv_iload_n hx hb d_H_init_82 rfl (lv_at hl 0 rfl) ?_
  refine lv_iconst (v := 4) hx hb d_H_init_83 (by decide) ?_
  refine lv_icmp_ge (tgt := 100) hx hb d_H_init_84 (by decide) (fun hc => absurd hc (by decide)) (fun _ => ?_)
  refine lv_aload_n hx hb d_H_init_87 rfl (lv_at hl 1 rfl) ?_
  refine va_get (D := (dC, dI)) (ci := 0) (v := .ref q7) (C := R_H) (T := F_H) (N := 16) hx hb hts i_H hown hK hP 0 rfl rfl 7 (by decide) (hts (.fieldLink R_H 26 "DetourHooker" "hookAt" "[I") (by decide +kernel)) (fun _ h9 => h9) rfl d_H_init_88 ?_
  refine lv_iload_n hx hb d_H_init_91 rfl (lv_at hl 0 rfl) ?_
  refine lv_iconst (v := (-1)) hx hb d_H_init_92 (by decide) ?_
  refine va_iast hx hb hK hP hD hS 6 0 rfl rfl (vp_in_nI (n := 3) (by decide) (by decide)) d_H_init_93 (fun H locs hP hD hS => ?_)
  have hP : va_P (dC, dI) classes [(h0, .inr (0, [.int 0, .ref q1, .ref q2, .ref q3, .ref q4, .ref q5, .int 0, .ref q7, .ref q8, .ref q9, .ref q10, .int 0, .ref q12, .int 0, .int 0, .int 0])), (q1, .inl (cI, 64, .inl (fun _ => 0))), (q2, .inl (cI, 64, .inl (fun _ => 0))), (q3, .inl (cZ, 64, .inl (fun _ => 0))), (q4, .inl (cI, 64, .inl (fun _ => 0))), (q5, .inl (cI, 64, .inl (fun _ => 0))), (q7, .inl (cI, 4, .inl (upd (upd (upd (upd (fun _ => 0) 0 (-1)) 1 (-1)) 2 (-1)) 3 (-1)))), (q8, .inl (cI, 4, .inl (fun _ => 0))), (q9, .inl (cI, 4, .inl (fun _ => 0))), (q10, .inl (cI, 4, .inl (fun _ => 0))), (q12, .inl (cI, 8, .inl (fun _ => 0)))] H := hP
  have hD : va_D A [(h0, .inr (0, [.int 0, .ref q1, .ref q2, .ref q3, .ref q4, .ref q5, .int 0, .ref q7, .ref q8, .ref q9, .ref q10, .int 0, .ref q12, .int 0, .int 0, .int 0])), (q1, .inl (cI, 64, .inl (fun _ => 0))), (q2, .inl (cI, 64, .inl (fun _ => 0))), (q3, .inl (cZ, 64, .inl (fun _ => 0))), (q4, .inl (cI, 64, .inl (fun _ => 0))), (q5, .inl (cI, 64, .inl (fun _ => 0))), (q7, .inl (cI, 4, .inl (upd (upd (upd (upd (fun _ => 0) 0 (-1)) 1 (-1)) 2 (-1)) 3 (-1)))), (q8, .inl (cI, 4, .inl (fun _ => 0))), (q9, .inl (cI, 4, .inl (fun _ => 0))), (q10, .inl (cI, 4, .inl (fun _ => 0))), (q12, .inl (cI, 8, .inl (fun _ => 0)))] := hD
  refine lv_iinc (v := 4) (lv' := [(1, .int 4), (0, .ref h0)]) hx hb d_H_init_94 hl (k := 0) rfl (by decide) (by decide) rfl (fun ls hl => ?_)
  refine lv_goto (tgt := 82) hx hb d_H_init_97 (by decide) ?_
  refine lv_iload_n hx hb d_H_init_82 rfl (lv_at hl 0 rfl) ?_
  refine lv_iconst (v := 4) hx hb d_H_init_83 (by decide) ?_
  refine lv_icmp_ge (tgt := 100) hx hb d_H_init_84 (by decide) (fun _ => ?_) (fun hc => absurd hc (by decide))
  exact W.vret hx hb hr (fun t ht hW => ⟨⟨(adH h0 q1 q2 q3 q4 q5 q7 q8 q9 q10 q12, cI, cZ), rfl, trivial, rfl, by rw [ht]; exact hP, va_K.moved hW.alike hK, hD⟩, hS.F ht⟩) hS.2.2 d_H_init_100
abbrev o_M : List Value := [.null, .null, .int 0, .null, .null, .null, .null, .int 0, .int 0, .int 0, .int 0]
def adM (h0 q17 q18 q20 q21 q22 q23 : Nat) : Nat → Nat := fun c => match c with
  | 16 => h0
  | 17 => q17
  | 18 => q18
  | 20 => q20
  | 21 => q21
  | 22 => q22
  | 23 => q23
  | _ => 0
def at_M (D : va_G) (A : Nat → Prop) (h0 : Nat) (u : (Nat → Nat) × ClassId × ClassId) (t : State) : Prop := u.1 16 = h0 ∧ va_P D classes (wdM u.1 u.2.1 u.2.2 s0M) t.heap ∧ va_K D classes (tys2 u.2.1 u.2.2) t ∧ va_D A (wdM u.1 u.2.1 u.2.2 s0M)
set_option maxHeartbeats 4000000 in
set_option maxRecDepth 100000 in
theorem c_M_init (l : Launch) (dC : Nat → ClassId) (dI : Nat → Nat → Nat) (h0 sz : Nat) : Met l y_M_init (.code y_M_init b_M_init 1 none :: tb) ({ frames := 1, cells := 6, slots := 268, locals := 12 }) (va_Pc [.ref h0] (fun U => U.heap.size = sz ∧ va_P (dC, dI) classes [(h0, .inr (1, o_M))] U.heap ∧ va_K (dC, dI) classes [] U ∧ va_D (fun _ => True) [(h0, .inr (1, o_M))])) (va_Qv (fun _ : (Nat → Nat) × ClassId × ClassId => True) (at_M (dC, dI) (va_A [(h0, .inr (1, o_M))] sz) h0) (va_A [(h0, .inr (1, o_M))] sz)) 6 268 (va_A [(h0, .inr (1, o_M))] sz) := by
  refine Met.ofW (cc := b_M_init) (maxL := 1) (ret := none) (by decide) rfl ?_
  intro p e s m args below meth c s₁ B hml hv
  obtain ⟨rfl, hsz, hP, hK, hD0⟩ := hv
  have hx := B.exec
  have hb := B.bytes
  have hr := B.returns
  have hts0 := atoms_spec (ws := .code y_M_init b_M_init 1 none :: tb) B.pre
  have hts : ∀ w ∈ tb, w.before _ s = true := fun w hw => hts0 w (List.mem_cons_of_mem _ hw)
  have hown : s.vm.findClass R_M = some m.cls := findClass_of_methodNamed B.named
  have hlocks := B.notSynchronized
  have hin : meth.name = "<init>" := (name_of_methodNamed B.named B.method).1
  subst hsz
  have hD := hD0.self (sz := s.heap.size)
  generalize hAe : va_A [(h0, .inr (1, o_M))] s.heap.size = A at hD ⊢
  have hA : ∀ q : Nat, s.heap.size ≤ q → A q := fun q h => by rw [← hAe]; exact Or.inr h
  have hS : va_S A s.heap s.heap [] := va_S.rf
  have hl := lv_entry ([.ref h0]) (n := 1) (Nat.le_of_ble_eq_true rfl)
  rw [lg_entry_eq]
  generalize (lg_sl ([.ref h0]) ++ List.replicate (1 - (lg_sl ([.ref h0])).length) Slot.unset).toArray = ls at hl ⊢
  have hl : lv_has ls 1 [(0, .ref h0)] := hl
  refine lv_aload_n hx hb d_M_init_0 rfl (lv_at hl 0 rfl) ?_
  refine W.objInit hx hb hown (hts (.methodLink R_M 1 objectInit) (by decide +kernel)) (hts (.instanceMethod objectInit) (by decide +kernel)) (hts (.code objectInit ⟨#[0xb1]⟩ 1 none) (by decide +kernel)) rfl (by rw [hml]; exact hl.1) rfl d_M_init_1 (Nat.le_of_ble_eq_true rfl) (Nat.le_of_ble_eq_true rfl) ?_
  refine W.eq (g2 := F0 m 4 ls []) rfl ?_
  refine lv_aload_n hx hb d_M_init_4 rfl (lv_at hl 0 rfl) ?_
  refine lv_bipush (v := 64) hx hb d_M_init_5 (by decide) ?_
  refine va_newa (atype := .int) (ty := .int) (N' := 64) (a0 := (64, .inl (fun _ => 0))) hx hb (hts (.arrayClass .int) (by decide +kernel)) rfl hK hP hD hS hA (fun _ => rfl) (by decide) (by decide) (by decide) (Nat.le_of_ble_eq_true rfl) (Nat.le_of_ble_eq_true rfl) d_M_init_7 (fun q17 cN H hK hP hD hS => ?_)
  refine W.widen (k := 1) (n := 64) (Nat.le_refl _) (Nat.le_refl _) ?_
  obtain ⟨cI, rfl⟩ : ∃ z, z = cN := ⟨_, rfl⟩
  have hP : va_P (dC, dI) classes [(h0, .inr (1, [.null, .null, .int 0, .null, .null, .null, .null, .int 0, .int 0, .int 0, .int 0])), (q17, .inl (cI, 64, .inl (fun _ => 0)))] H := hP
  have hD : va_D A [(h0, .inr (1, [.null, .null, .int 0, .null, .null, .null, .null, .int 0, .int 0, .int 0, .int 0])), (q17, .inl (cI, 64, .inl (fun _ => 0)))] := hD
  refine va_putF (D := (dC, dI)) (ci := 1) (v := .ref q17) (ty := .array .int) (C := R_M) (T := F_M) (N := 11) hx hb hts i_M t_M t_M_ok n_M hown hK hP hD hS 0 rfl rfl 0 (by decide) (hts (.fieldLink R_M 7 "DetourHookerModel" "code" "[I") (by decide +kernel)) (fun _ h9 => h9) rfl hin rfl (by decide +kernel) rfl rfl (Nat.le_of_ble_eq_true rfl) d_M_init_9 (fun H locs hP hD hS => ?_)
  have hP : va_P (dC, dI) classes [(h0, .inr (1, [.ref q17, .null, .int 0, .null, .null, .null, .null, .int 0, .int 0, .int 0, .int 0])), (q17, .inl (cI, 64, .inl (fun _ => 0)))] H := hP
  have hD : va_D A [(h0, .inr (1, [.ref q17, .null, .int 0, .null, .null, .null, .null, .int 0, .int 0, .int 0, .int 0])), (q17, .inl (cI, 64, .inl (fun _ => 0)))] := hD
  refine lv_aload_n hx hb d_M_init_12 rfl (lv_at hl 0 rfl) ?_
  refine lv_bipush (v := 64) hx hb d_M_init_13 (by decide) ?_
  refine va_newa (atype := .boolean) (ty := .boolean) (N' := 64) (a0 := (64, .inl (fun _ => 0))) hx hb (hts (.arrayClass .boolean) (by decide +kernel)) rfl hK hP hD hS hA (fun _ => rfl) (by decide) (by decide) (by decide) (Nat.le_of_ble_eq_true rfl) (Nat.le_of_ble_eq_true rfl) d_M_init_15 (fun q18 cN H hK hP hD hS => ?_)
  refine W.widen (k := 2) (n := 128) (Nat.le_refl _) (Nat.le_refl _) ?_
  obtain ⟨cZ, rfl⟩ : ∃ z, z = cN := ⟨_, rfl⟩
  have hP : va_P (dC, dI) classes [(h0, .inr (1, [.ref q17, .null, .int 0, .null, .null, .null, .null, .int 0, .int 0, .int 0, .int 0])), (q17, .inl (cI, 64, .inl (fun _ => 0))), (q18, .inl (cZ, 64, .inl (fun _ => 0)))] H := hP
  have hD : va_D A [(h0, .inr (1, [.ref q17, .null, .int 0, .null, .null, .null, .null, .int 0, .int 0, .int 0, .int 0])), (q17, .inl (cI, 64, .inl (fun _ => 0))), (q18, .inl (cZ, 64, .inl (fun _ => 0)))] := hD
  refine va_putF (D := (dC, dI)) (ci := 1) (v := .ref q18) (ty := .array .boolean) (C := R_M) (T := F_M) (N := 11) hx hb hts i_M t_M t_M_ok n_M hown hK hP hD hS 0 rfl rfl 1 (by decide) (hts (.fieldLink R_M 13 "DetourHookerModel" "begins" "[Z") (by decide +kernel)) (fun _ h9 => h9) rfl hin rfl (by decide +kernel) rfl rfl (Nat.le_of_ble_eq_true rfl) d_M_init_17 (fun H locs hP hD hS => ?_)
  have hP : va_P (dC, dI) classes [(h0, .inr (1, [.ref q17, .ref q18, .int 0, .null, .null, .null, .null, .int 0, .int 0, .int 0, .int 0])), (q17, .inl (cI, 64, .inl (fun _ => 0))), (q18, .inl (cZ, 64, .inl (fun _ => 0)))] H := hP
  have hD : va_D A [(h0, .inr (1, [.ref q17, .ref q18, .int 0, .null, .null, .null, .null, .int 0, .int 0, .int 0, .int 0])), (q17, .inl (cI, 64, .inl (fun _ => 0))), (q18, .inl (cZ, 64, .inl (fun _ => 0)))] := hD
  refine lv_aload_n hx hb d_M_init_20 rfl (lv_at hl 0 rfl) ?_
  refine lv_iconst (v := 4) hx hb d_M_init_21 (by decide) ?_
  refine va_newa (atype := .int) (ty := .int) (N' := 4) (a0 := (4, .inl (fun _ => 0))) hx hb (hts (.arrayClass .int) (by decide +kernel)) rfl hK hP hD hS hA (fun _ => rfl) (by decide) (by decide) (by decide) (Nat.le_of_ble_eq_true rfl) (Nat.le_of_ble_eq_true rfl) d_M_init_22 (fun q20 cN H hK hP hD hS => ?_)
  refine W.widen (k := 3) (n := 132) (Nat.le_refl _) (Nat.le_refl _) ?_
  obtain rfl : cI = cN := Option.some.inj ((va_nm_int (hK.2 0 _ rfl).2).symm.trans (va_nm_int (hK.2 2 _ rfl).2))
  have hK := hK.sub (tys' := [(cI, .int), (cZ, .boolean)]) [0, 1] rfl
  have hP : va_P (dC, dI) classes [(h0, .inr (1, [.ref q17, .ref q18, .int 0, .null, .null, .null, .null, .int 0, .int 0, .int 0, .int 0])), (q17, .inl (cI, 64, .inl (fun _ => 0))), (q18, .inl (cZ, 64, .inl (fun _ => 0))), (q20, .inl (cI, 4, .inl (fun _ => 0)))] H := hP
  have hD : va_D A [(h0, .inr (1, [.ref q17, .ref q18, .int 0, .null, .null, .null, .null, .int 0, .int 0, .int 0, .int 0])), (q17, .inl (cI, 64, .inl (fun _ => 0))), (q18, .inl (cZ, 64, .inl (fun _ => 0))), (q20, .inl (cI, 4, .inl (fun _ => 0)))] := hD
  refine va_putF (D := (dC, dI)) (ci := 1) (v := .ref q20) (ty := .array .int) (C := R_M) (T := F_M) (N := 11) hx hb hts i_M t_M t_M_ok n_M hown hK hP hD hS 0 rfl rfl 3 (by decide) (hts (.fieldLink R_M 17 "DetourHookerModel" "registers" "[I") (by decide +kernel)) (fun _ h9 => h9) rfl hin rfl (by decide +kernel) rfl rfl (Nat.le_of_ble_eq_true rfl) d_M_init_24 (fun H locs hP hD hS => ?_)
  have hP : va_P (dC, dI) classes [(h0, .inr (1, [.ref q17, .ref q18, .int 0, .ref q20, .null, .null, .null, .int 0, .int 0, .int 0, .int 0])), (q17, .inl (cI, 64, .inl (fun _ => 0))), (q18, .inl (cZ, 64, .inl (fun _ => 0))), (q20, .inl (cI, 4, .inl (fun _ => 0)))] H := hP
  have hD : va_D A [(h0, .inr (1, [.ref q17, .ref q18, .int 0, .ref q20, .null, .null, .null, .int 0, .int 0, .int 0, .int 0])), (q17, .inl (cI, 64, .inl (fun _ => 0))), (q18, .inl (cZ, 64, .inl (fun _ => 0))), (q20, .inl (cI, 4, .inl (fun _ => 0)))] := hD
  refine lv_aload_n hx hb d_M_init_27 rfl (lv_at hl 0 rfl) ?_
  refine lv_bipush (v := 64) hx hb d_M_init_28 (by decide) ?_
  refine va_newa (atype := .boolean) (ty := .boolean) (N' := 64) (a0 := (64, .inl (fun _ => 0))) hx hb (hts (.arrayClass .boolean) (by decide +kernel)) rfl hK hP hD hS hA (fun _ => rfl) (by decide) (by decide) (by decide) (Nat.le_of_ble_eq_true rfl) (Nat.le_of_ble_eq_true rfl) d_M_init_30 (fun q21 cN H hK hP hD hS => ?_)
  refine W.widen (k := 4) (n := 196) (Nat.le_refl _) (Nat.le_refl _) ?_
  obtain rfl : cZ = cN := Option.some.inj ((va_nm_boolean (hK.2 1 _ rfl).2).symm.trans (va_nm_boolean (hK.2 2 _ rfl).2))
  have hK := hK.sub (tys' := [(cI, .int), (cZ, .boolean)]) [0, 1] rfl
  have hP : va_P (dC, dI) classes [(h0, .inr (1, [.ref q17, .ref q18, .int 0, .ref q20, .null, .null, .null, .int 0, .int 0, .int 0, .int 0])), (q17, .inl (cI, 64, .inl (fun _ => 0))), (q18, .inl (cZ, 64, .inl (fun _ => 0))), (q20, .inl (cI, 4, .inl (fun _ => 0))), (q21, .inl (cZ, 64, .inl (fun _ => 0)))] H := hP
  have hD : va_D A [(h0, .inr (1, [.ref q17, .ref q18, .int 0, .ref q20, .null, .null, .null, .int 0, .int 0, .int 0, .int 0])), (q17, .inl (cI, 64, .inl (fun _ => 0))), (q18, .inl (cZ, 64, .inl (fun _ => 0))), (q20, .inl (cI, 4, .inl (fun _ => 0))), (q21, .inl (cZ, 64, .inl (fun _ => 0)))] := hD
  refine va_putF (D := (dC, dI)) (ci := 1) (v := .ref q21) (ty := .array .boolean) (C := R_M) (T := F_M) (N := 11) hx hb hts i_M t_M t_M_ok n_M hown hK hP hD hS 0 rfl rfl 4 (by decide) (hts (.fieldLink R_M 20 "DetourHookerModel" "hooked" "[Z") (by decide +kernel)) (fun _ h9 => h9) rfl hin rfl (by decide +kernel) rfl rfl (Nat.le_of_ble_eq_true rfl) d_M_init_32 (fun H locs hP hD hS => ?_)
  have hP : va_P (dC, dI) classes [(h0, .inr (1, [.ref q17, .ref q18, .int 0, .ref q20, .ref q21, .null, .null, .int 0, .int 0, .int 0, .int 0])), (q17, .inl (cI, 64, .inl (fun _ => 0))), (q18, .inl (cZ, 64, .inl (fun _ => 0))), (q20, .inl (cI, 4, .inl (fun _ => 0))), (q21, .inl (cZ, 64, .inl (fun _ => 0)))] H := hP
  have hD : va_D A [(h0, .inr (1, [.ref q17, .ref q18, .int 0, .ref q20, .ref q21, .null, .null, .int 0, .int 0, .int 0, .int 0])), (q17, .inl (cI, 64, .inl (fun _ => 0))), (q18, .inl (cZ, 64, .inl (fun _ => 0))), (q20, .inl (cI, 4, .inl (fun _ => 0))), (q21, .inl (cZ, 64, .inl (fun _ => 0)))] := hD
  refine lv_aload_n hx hb d_M_init_35 rfl (lv_at hl 0 rfl) ?_
  refine lv_bipush (v := 64) hx hb d_M_init_36 (by decide) ?_
  refine va_newa (atype := .int) (ty := .int) (N' := 64) (a0 := (64, .inl (fun _ => 0))) hx hb (hts (.arrayClass .int) (by decide +kernel)) rfl hK hP hD hS hA (fun _ => rfl) (by decide) (by decide) (by decide) (Nat.le_of_ble_eq_true rfl) (Nat.le_of_ble_eq_true rfl) d_M_init_38 (fun q22 cN H hK hP hD hS => ?_)
  refine W.widen (k := 5) (n := 260) (Nat.le_refl _) (Nat.le_refl _) ?_
  obtain rfl : cI = cN := Option.some.inj ((va_nm_int (hK.2 0 _ rfl).2).symm.trans (va_nm_int (hK.2 2 _ rfl).2))
  have hK := hK.sub (tys' := [(cI, .int), (cZ, .boolean)]) [0, 1] rfl
  have hP : va_P (dC, dI) classes [(h0, .inr (1, [.ref q17, .ref q18, .int 0, .ref q20, .ref q21, .null, .null, .int 0, .int 0, .int 0, .int 0])), (q17, .inl (cI, 64, .inl (fun _ => 0))), (q18, .inl (cZ, 64, .inl (fun _ => 0))), (q20, .inl (cI, 4, .inl (fun _ => 0))), (q21, .inl (cZ, 64, .inl (fun _ => 0))), (q22, .inl (cI, 64, .inl (fun _ => 0)))] H := hP
  have hD : va_D A [(h0, .inr (1, [.ref q17, .ref q18, .int 0, .ref q20, .ref q21, .null, .null, .int 0, .int 0, .int 0, .int 0])), (q17, .inl (cI, 64, .inl (fun _ => 0))), (q18, .inl (cZ, 64, .inl (fun _ => 0))), (q20, .inl (cI, 4, .inl (fun _ => 0))), (q21, .inl (cZ, 64, .inl (fun _ => 0))), (q22, .inl (cI, 64, .inl (fun _ => 0)))] := hD
  refine va_putF (D := (dC, dI)) (ci := 1) (v := .ref q22) (ty := .array .int) (C := R_M) (T := F_M) (N := 11) hx hb hts i_M t_M t_M_ok n_M hown hK hP hD hS 0 rfl rfl 5 (by decide) (hts (.fieldLink R_M 23 "DetourHookerModel" "count" "[I") (by decide +kernel)) (fun _ h9 => h9) rfl hin rfl (by decide +kernel) rfl rfl (Nat.le_of_ble_eq_true rfl) d_M_init_40 (fun H locs hP hD hS => ?_)
  have hP : va_P (dC, dI) classes [(h0, .inr (1, [.ref q17, .ref q18, .int 0, .ref q20, .ref q21, .ref q22, .null, .int 0, .int 0, .int 0, .int 0])), (q17, .inl (cI, 64, .inl (fun _ => 0))), (q18, .inl (cZ, 64, .inl (fun _ => 0))), (q20, .inl (cI, 4, .inl (fun _ => 0))), (q21, .inl (cZ, 64, .inl (fun _ => 0))), (q22, .inl (cI, 64, .inl (fun _ => 0)))] H := hP
  have hD : va_D A [(h0, .inr (1, [.ref q17, .ref q18, .int 0, .ref q20, .ref q21, .ref q22, .null, .int 0, .int 0, .int 0, .int 0])), (q17, .inl (cI, 64, .inl (fun _ => 0))), (q18, .inl (cZ, 64, .inl (fun _ => 0))), (q20, .inl (cI, 4, .inl (fun _ => 0))), (q21, .inl (cZ, 64, .inl (fun _ => 0))), (q22, .inl (cI, 64, .inl (fun _ => 0)))] := hD
  refine lv_aload_n hx hb d_M_init_43 rfl (lv_at hl 0 rfl) ?_
  refine lv_bipush (v := 8) hx hb d_M_init_44 (by decide) ?_
  refine va_newa (atype := .int) (ty := .int) (N' := 8) (a0 := (8, .inl (fun _ => 0))) hx hb (hts (.arrayClass .int) (by decide +kernel)) rfl hK hP hD hS hA (fun _ => rfl) (by decide) (by decide) (by decide) (Nat.le_of_ble_eq_true rfl) (Nat.le_of_ble_eq_true rfl) d_M_init_46 (fun q23 cN H hK hP hD hS => ?_)
  refine W.widen (k := 6) (n := 268) (Nat.le_refl _) (Nat.le_refl _) ?_
  obtain rfl : cI = cN := Option.some.inj ((va_nm_int (hK.2 0 _ rfl).2).symm.trans (va_nm_int (hK.2 2 _ rfl).2))
  have hK := hK.sub (tys' := [(cI, .int), (cZ, .boolean)]) [0, 1] rfl
  have hP : va_P (dC, dI) classes [(h0, .inr (1, [.ref q17, .ref q18, .int 0, .ref q20, .ref q21, .ref q22, .null, .int 0, .int 0, .int 0, .int 0])), (q17, .inl (cI, 64, .inl (fun _ => 0))), (q18, .inl (cZ, 64, .inl (fun _ => 0))), (q20, .inl (cI, 4, .inl (fun _ => 0))), (q21, .inl (cZ, 64, .inl (fun _ => 0))), (q22, .inl (cI, 64, .inl (fun _ => 0))), (q23, .inl (cI, 8, .inl (fun _ => 0)))] H := hP
  have hD : va_D A [(h0, .inr (1, [.ref q17, .ref q18, .int 0, .ref q20, .ref q21, .ref q22, .null, .int 0, .int 0, .int 0, .int 0])), (q17, .inl (cI, 64, .inl (fun _ => 0))), (q18, .inl (cZ, 64, .inl (fun _ => 0))), (q20, .inl (cI, 4, .inl (fun _ => 0))), (q21, .inl (cZ, 64, .inl (fun _ => 0))), (q22, .inl (cI, 64, .inl (fun _ => 0))), (q23, .inl (cI, 8, .inl (fun _ => 0)))] := hD
  refine va_putF (D := (dC, dI)) (ci := 1) (v := .ref q23) (ty := .array .int) (C := R_M) (T := F_M) (N := 11) hx hb hts i_M t_M t_M_ok n_M hown hK hP hD hS 0 rfl rfl 6 (by decide) (hts (.fieldLink R_M 26 "DetourHookerModel" "returns" "[I") (by decide +kernel)) (fun _ h9 => h9) rfl hin rfl (by decide +kernel) rfl rfl (Nat.le_of_ble_eq_true rfl) d_M_init_48 (fun H locs hP hD hS => ?_)
  have hP : va_P (dC, dI) classes [(h0, .inr (1, [.ref q17, .ref q18, .int 0, .ref q20, .ref q21, .ref q22, .ref q23, .int 0, .int 0, .int 0, .int 0])), (q17, .inl (cI, 64, .inl (fun _ => 0))), (q18, .inl (cZ, 64, .inl (fun _ => 0))), (q20, .inl (cI, 4, .inl (fun _ => 0))), (q21, .inl (cZ, 64, .inl (fun _ => 0))), (q22, .inl (cI, 64, .inl (fun _ => 0))), (q23, .inl (cI, 8, .inl (fun _ => 0)))] H := hP
  have hD : va_D A [(h0, .inr (1, [.ref q17, .ref q18, .int 0, .ref q20, .ref q21, .ref q22, .ref q23, .int 0, .int 0, .int 0, .int 0])), (q17, .inl (cI, 64, .inl (fun _ => 0))), (q18, .inl (cZ, 64, .inl (fun _ => 0))), (q20, .inl (cI, 4, .inl (fun _ => 0))), (q21, .inl (cZ, 64, .inl (fun _ => 0))), (q22, .inl (cI, 64, .inl (fun _ => 0))), (q23, .inl (cI, 8, .inl (fun _ => 0)))] := hD
  exact W.vret hx hb hr (fun t ht hW => ⟨⟨(adM h0 q17 q18 q20 q21 q22 q23, cI, cZ), rfl, trivial, rfl, by rw [ht]; exact hP, va_K.moved hW.alike hK, hD⟩, hS.F ht⟩) hS.2.2 d_M_init_51
end
section
theorem d_law_0 : decode code 0 = .ok (.new 7, 3) := by decide +kernel
theorem d_law_3 : decode code 3 = .ok (.dup, 1) := by decide +kernel
theorem d_law_4 : decode code 4 = .ok (.invokespecial 9, 3) := by decide +kernel
theorem d_law_7 : decode code 7 = .ok (.astore_n 1, 1) := by decide +kernel
theorem d_law_8 : decode code 8 = .ok (.new 10, 3) := by decide +kernel
theorem d_law_11 : decode code 11 = .ok (.dup, 1) := by decide +kernel
theorem d_law_12 : decode code 12 = .ok (.invokespecial 12, 3) := by decide +kernel
theorem d_law_15 : decode code 15 = .ok (.astore_n 2, 1) := by decide +kernel
theorem d_law_16 : decode code 16 = .ok (.iconst 0, 1) := by decide +kernel
theorem d_law_17 : decode code 17 = .ok (.istore_n 3, 1) := by decide +kernel
theorem d_law_18 : decode code 18 = .ok (.iload_n 3, 1) := by decide +kernel
theorem d_law_19 : decode code 19 = .ok (.aload_n 0, 1) := by decide +kernel
theorem d_law_20 : decode code 20 = .ok (.arraylength, 1) := by decide +kernel
theorem d_law_21 : decode code 21 = .ok (.iconst 3, 1) := by decide +kernel
theorem d_law_22 : decode code 22 = .ok (.isub, 1) := by decide +kernel
theorem d_law_23 : decode code 23 = .ok (.if_icmp .gt 558, 3) := by decide +kernel
theorem d_law_26 : decode code 26 = .ok (.aload_n 0, 1) := by decide +kernel
theorem d_law_27 : decode code 27 = .ok (.iload_n 3, 1) := by decide +kernel
theorem d_law_28 : decode code 28 = .ok (.iaload, 1) := by decide +kernel
theorem d_law_29 : decode code 29 = .ok (.bipush 31, 2) := by decide +kernel
theorem d_law_31 : decode code 31 = .ok (.iand, 1) := by decide +kernel
theorem d_law_32 : decode code 32 = .ok (.tableswitch 543 0 20 #[100, 113, 136, 159, 192, 215, 248, 271, 284, 307, 320, 343, 356, 389, 412, 435, 458, 481, 494, 517, 530], 100) := by decide +kernel
theorem d_law_132 : decode code 132 = .ok (.aload_n 1, 1) := by decide +kernel
theorem d_law_133 : decode code 133 = .ok (.invokevirtual 13, 3) := by decide +kernel
theorem d_law_136 : decode code 136 = .ok (.aload_n 2, 1) := by decide +kernel
theorem d_law_137 : decode code 137 = .ok (.invokevirtual 17, 3) := by decide +kernel
theorem d_law_140 : decode code 140 = .ok (.if_icmp .eq 435, 3) := by decide +kernel
theorem d_law_143 : decode code 143 = .ok (.iconst 0, 1) := by decide +kernel
theorem d_law_144 : decode code 144 = .ok (.ireturn, 1) := by decide +kernel
theorem d_law_145 : decode code 145 = .ok (.aload_n 1, 1) := by decide +kernel
theorem d_law_146 : decode code 146 = .ok (.aload_n 0, 1) := by decide +kernel
theorem d_law_147 : decode code 147 = .ok (.iload_n 3, 1) := by decide +kernel
theorem d_law_148 : decode code 148 = .ok (.iconst 1, 1) := by decide +kernel
theorem d_law_149 : decode code 149 = .ok (.iadd, 1) := by decide +kernel
theorem d_law_150 : decode code 150 = .ok (.iaload, 1) := by decide +kernel
theorem d_law_151 : decode code 151 = .ok (.invokevirtual 18, 3) := by decide +kernel
theorem d_law_154 : decode code 154 = .ok (.aload_n 2, 1) := by decide +kernel
theorem d_law_155 : decode code 155 = .ok (.aload_n 0, 1) := by decide +kernel
theorem d_law_156 : decode code 156 = .ok (.iload_n 3, 1) := by decide +kernel
theorem d_law_157 : decode code 157 = .ok (.iconst 1, 1) := by decide +kernel
theorem d_law_158 : decode code 158 = .ok (.iadd, 1) := by decide +kernel
theorem d_law_159 : decode code 159 = .ok (.iaload, 1) := by decide +kernel
theorem d_law_160 : decode code 160 = .ok (.invokevirtual 22, 3) := by decide +kernel
theorem d_law_163 : decode code 163 = .ok (.if_icmp .eq 412, 3) := by decide +kernel
theorem d_law_166 : decode code 166 = .ok (.iconst 0, 1) := by decide +kernel
theorem d_law_167 : decode code 167 = .ok (.ireturn, 1) := by decide +kernel
theorem d_law_168 : decode code 168 = .ok (.aload_n 1, 1) := by decide +kernel
theorem d_law_169 : decode code 169 = .ok (.aload_n 0, 1) := by decide +kernel
theorem d_law_170 : decode code 170 = .ok (.iload_n 3, 1) := by decide +kernel
theorem d_law_171 : decode code 171 = .ok (.iconst 1, 1) := by decide +kernel
theorem d_law_172 : decode code 172 = .ok (.iadd, 1) := by decide +kernel
theorem d_law_173 : decode code 173 = .ok (.iaload, 1) := by decide +kernel
theorem d_law_174 : decode code 174 = .ok (.invokevirtual 23, 3) := by decide +kernel
theorem d_law_177 : decode code 177 = .ok (.aload_n 2, 1) := by decide +kernel
theorem d_law_178 : decode code 178 = .ok (.aload_n 0, 1) := by decide +kernel
theorem d_law_179 : decode code 179 = .ok (.iload_n 3, 1) := by decide +kernel
theorem d_law_180 : decode code 180 = .ok (.iconst 1, 1) := by decide +kernel
theorem d_law_181 : decode code 181 = .ok (.iadd, 1) := by decide +kernel
theorem d_law_182 : decode code 182 = .ok (.iaload, 1) := by decide +kernel
theorem d_law_183 : decode code 183 = .ok (.invokevirtual 26, 3) := by decide +kernel
theorem d_law_186 : decode code 186 = .ok (.if_icmp .eq 389, 3) := by decide +kernel
theorem d_law_189 : decode code 189 = .ok (.iconst 0, 1) := by decide +kernel
theorem d_law_190 : decode code 190 = .ok (.ireturn, 1) := by decide +kernel
theorem d_law_191 : decode code 191 = .ok (.aload_n 1, 1) := by decide +kernel
theorem d_law_192 : decode code 192 = .ok (.aload_n 0, 1) := by decide +kernel
theorem d_law_193 : decode code 193 = .ok (.iload_n 3, 1) := by decide +kernel
theorem d_law_194 : decode code 194 = .ok (.iconst 1, 1) := by decide +kernel
theorem d_law_195 : decode code 195 = .ok (.iadd, 1) := by decide +kernel
theorem d_law_196 : decode code 196 = .ok (.iaload, 1) := by decide +kernel
theorem d_law_197 : decode code 197 = .ok (.aload_n 0, 1) := by decide +kernel
theorem d_law_198 : decode code 198 = .ok (.iload_n 3, 1) := by decide +kernel
theorem d_law_199 : decode code 199 = .ok (.iconst 2, 1) := by decide +kernel
theorem d_law_200 : decode code 200 = .ok (.iadd, 1) := by decide +kernel
theorem d_law_201 : decode code 201 = .ok (.iaload, 1) := by decide +kernel
theorem d_law_202 : decode code 202 = .ok (.invokevirtual 27, 3) := by decide +kernel
theorem d_law_205 : decode code 205 = .ok (.aload_n 2, 1) := by decide +kernel
theorem d_law_206 : decode code 206 = .ok (.aload_n 0, 1) := by decide +kernel
theorem d_law_207 : decode code 207 = .ok (.iload_n 3, 1) := by decide +kernel
theorem d_law_208 : decode code 208 = .ok (.iconst 1, 1) := by decide +kernel
theorem d_law_209 : decode code 209 = .ok (.iadd, 1) := by decide +kernel
theorem d_law_210 : decode code 210 = .ok (.iaload, 1) := by decide +kernel
theorem d_law_211 : decode code 211 = .ok (.aload_n 0, 1) := by decide +kernel
theorem d_law_212 : decode code 212 = .ok (.iload_n 3, 1) := by decide +kernel
theorem d_law_213 : decode code 213 = .ok (.iconst 2, 1) := by decide +kernel
theorem d_law_214 : decode code 214 = .ok (.iadd, 1) := by decide +kernel
theorem d_law_215 : decode code 215 = .ok (.iaload, 1) := by decide +kernel
theorem d_law_216 : decode code 216 = .ok (.invokevirtual 31, 3) := by decide +kernel
theorem d_law_219 : decode code 219 = .ok (.if_icmp .eq 356, 3) := by decide +kernel
theorem d_law_222 : decode code 222 = .ok (.iconst 0, 1) := by decide +kernel
theorem d_law_223 : decode code 223 = .ok (.ireturn, 1) := by decide +kernel
theorem d_law_224 : decode code 224 = .ok (.aload_n 1, 1) := by decide +kernel
theorem d_law_225 : decode code 225 = .ok (.aload_n 0, 1) := by decide +kernel
theorem d_law_226 : decode code 226 = .ok (.iload_n 3, 1) := by decide +kernel
theorem d_law_227 : decode code 227 = .ok (.iconst 1, 1) := by decide +kernel
theorem d_law_228 : decode code 228 = .ok (.iadd, 1) := by decide +kernel
theorem d_law_229 : decode code 229 = .ok (.iaload, 1) := by decide +kernel
theorem d_law_230 : decode code 230 = .ok (.invokevirtual 32, 3) := by decide +kernel
theorem d_law_233 : decode code 233 = .ok (.aload_n 2, 1) := by decide +kernel
theorem d_law_234 : decode code 234 = .ok (.aload_n 0, 1) := by decide +kernel
theorem d_law_235 : decode code 235 = .ok (.iload_n 3, 1) := by decide +kernel
theorem d_law_236 : decode code 236 = .ok (.iconst 1, 1) := by decide +kernel
theorem d_law_237 : decode code 237 = .ok (.iadd, 1) := by decide +kernel
theorem d_law_238 : decode code 238 = .ok (.iaload, 1) := by decide +kernel
theorem d_law_239 : decode code 239 = .ok (.invokevirtual 35, 3) := by decide +kernel
theorem d_law_242 : decode code 242 = .ok (.if_icmp .eq 333, 3) := by decide +kernel
theorem d_law_245 : decode code 245 = .ok (.iconst 0, 1) := by decide +kernel
theorem d_law_246 : decode code 246 = .ok (.ireturn, 1) := by decide +kernel
theorem d_law_247 : decode code 247 = .ok (.aload_n 1, 1) := by decide +kernel
theorem d_law_248 : decode code 248 = .ok (.aload_n 0, 1) := by decide +kernel
theorem d_law_249 : decode code 249 = .ok (.iload_n 3, 1) := by decide +kernel
theorem d_law_250 : decode code 250 = .ok (.iconst 1, 1) := by decide +kernel
theorem d_law_251 : decode code 251 = .ok (.iadd, 1) := by decide +kernel
theorem d_law_252 : decode code 252 = .ok (.iaload, 1) := by decide +kernel
theorem d_law_253 : decode code 253 = .ok (.aload_n 0, 1) := by decide +kernel
theorem d_law_254 : decode code 254 = .ok (.iload_n 3, 1) := by decide +kernel
theorem d_law_255 : decode code 255 = .ok (.iconst 2, 1) := by decide +kernel
theorem d_law_256 : decode code 256 = .ok (.iadd, 1) := by decide +kernel
theorem d_law_257 : decode code 257 = .ok (.iaload, 1) := by decide +kernel
theorem d_law_258 : decode code 258 = .ok (.invokevirtual 36, 3) := by decide +kernel
theorem d_law_261 : decode code 261 = .ok (.aload_n 2, 1) := by decide +kernel
theorem d_law_262 : decode code 262 = .ok (.aload_n 0, 1) := by decide +kernel
theorem d_law_263 : decode code 263 = .ok (.iload_n 3, 1) := by decide +kernel
theorem d_law_264 : decode code 264 = .ok (.iconst 1, 1) := by decide +kernel
theorem d_law_265 : decode code 265 = .ok (.iadd, 1) := by decide +kernel
theorem d_law_266 : decode code 266 = .ok (.iaload, 1) := by decide +kernel
theorem d_law_267 : decode code 267 = .ok (.aload_n 0, 1) := by decide +kernel
theorem d_law_268 : decode code 268 = .ok (.iload_n 3, 1) := by decide +kernel
theorem d_law_269 : decode code 269 = .ok (.iconst 2, 1) := by decide +kernel
theorem d_law_270 : decode code 270 = .ok (.iadd, 1) := by decide +kernel
theorem d_law_271 : decode code 271 = .ok (.iaload, 1) := by decide +kernel
theorem d_law_272 : decode code 272 = .ok (.invokevirtual 39, 3) := by decide +kernel
theorem d_law_275 : decode code 275 = .ok (.if_icmp .eq 300, 3) := by decide +kernel
theorem d_law_278 : decode code 278 = .ok (.iconst 0, 1) := by decide +kernel
theorem d_law_279 : decode code 279 = .ok (.ireturn, 1) := by decide +kernel
theorem d_law_280 : decode code 280 = .ok (.aload_n 1, 1) := by decide +kernel
theorem d_law_281 : decode code 281 = .ok (.aload_n 0, 1) := by decide +kernel
theorem d_law_282 : decode code 282 = .ok (.iload_n 3, 1) := by decide +kernel
theorem d_law_283 : decode code 283 = .ok (.iconst 1, 1) := by decide +kernel
theorem d_law_284 : decode code 284 = .ok (.iadd, 1) := by decide +kernel
theorem d_law_285 : decode code 285 = .ok (.iaload, 1) := by decide +kernel
theorem d_law_286 : decode code 286 = .ok (.invokevirtual 40, 3) := by decide +kernel
theorem d_law_289 : decode code 289 = .ok (.aload_n 2, 1) := by decide +kernel
theorem d_law_290 : decode code 290 = .ok (.aload_n 0, 1) := by decide +kernel
theorem d_law_291 : decode code 291 = .ok (.iload_n 3, 1) := by decide +kernel
theorem d_law_292 : decode code 292 = .ok (.iconst 1, 1) := by decide +kernel
theorem d_law_293 : decode code 293 = .ok (.iadd, 1) := by decide +kernel
theorem d_law_294 : decode code 294 = .ok (.iaload, 1) := by decide +kernel
theorem d_law_295 : decode code 295 = .ok (.invokevirtual 43, 3) := by decide +kernel
theorem d_law_298 : decode code 298 = .ok (.if_icmp .eq 277, 3) := by decide +kernel
theorem d_law_301 : decode code 301 = .ok (.iconst 0, 1) := by decide +kernel
theorem d_law_302 : decode code 302 = .ok (.ireturn, 1) := by decide +kernel
theorem d_law_303 : decode code 303 = .ok (.aload_n 1, 1) := by decide +kernel
theorem d_law_304 : decode code 304 = .ok (.invokevirtual 44, 3) := by decide +kernel
theorem d_law_307 : decode code 307 = .ok (.aload_n 2, 1) := by decide +kernel
theorem d_law_308 : decode code 308 = .ok (.invokevirtual 47, 3) := by decide +kernel
theorem d_law_311 : decode code 311 = .ok (.if_icmp .eq 264, 3) := by decide +kernel
theorem d_law_314 : decode code 314 = .ok (.iconst 0, 1) := by decide +kernel
theorem d_law_315 : decode code 315 = .ok (.ireturn, 1) := by decide +kernel
theorem d_law_316 : decode code 316 = .ok (.aload_n 1, 1) := by decide +kernel
theorem d_law_317 : decode code 317 = .ok (.aload_n 0, 1) := by decide +kernel
theorem d_law_318 : decode code 318 = .ok (.iload_n 3, 1) := by decide +kernel
theorem d_law_319 : decode code 319 = .ok (.iconst 1, 1) := by decide +kernel
theorem d_law_320 : decode code 320 = .ok (.iadd, 1) := by decide +kernel
theorem d_law_321 : decode code 321 = .ok (.iaload, 1) := by decide +kernel
theorem d_law_322 : decode code 322 = .ok (.invokevirtual 48, 3) := by decide +kernel
theorem d_law_325 : decode code 325 = .ok (.aload_n 2, 1) := by decide +kernel
theorem d_law_326 : decode code 326 = .ok (.aload_n 0, 1) := by decide +kernel
theorem d_law_327 : decode code 327 = .ok (.iload_n 3, 1) := by decide +kernel
theorem d_law_328 : decode code 328 = .ok (.iconst 1, 1) := by decide +kernel
theorem d_law_329 : decode code 329 = .ok (.iadd, 1) := by decide +kernel
theorem d_law_330 : decode code 330 = .ok (.iaload, 1) := by decide +kernel
theorem d_law_331 : decode code 331 = .ok (.invokevirtual 51, 3) := by decide +kernel
theorem d_law_334 : decode code 334 = .ok (.if_icmp .eq 241, 3) := by decide +kernel
theorem d_law_337 : decode code 337 = .ok (.iconst 0, 1) := by decide +kernel
theorem d_law_338 : decode code 338 = .ok (.ireturn, 1) := by decide +kernel
theorem d_law_339 : decode code 339 = .ok (.aload_n 1, 1) := by decide +kernel
theorem d_law_340 : decode code 340 = .ok (.invokevirtual 52, 3) := by decide +kernel
theorem d_law_343 : decode code 343 = .ok (.aload_n 2, 1) := by decide +kernel
theorem d_law_344 : decode code 344 = .ok (.invokevirtual 55, 3) := by decide +kernel
theorem d_law_347 : decode code 347 = .ok (.if_icmp .eq 228, 3) := by decide +kernel
theorem d_law_350 : decode code 350 = .ok (.iconst 0, 1) := by decide +kernel
theorem d_law_351 : decode code 351 = .ok (.ireturn, 1) := by decide +kernel
theorem d_law_352 : decode code 352 = .ok (.aload_n 1, 1) := by decide +kernel
theorem d_law_353 : decode code 353 = .ok (.aload_n 0, 1) := by decide +kernel
theorem d_law_354 : decode code 354 = .ok (.iload_n 3, 1) := by decide +kernel
theorem d_law_355 : decode code 355 = .ok (.iconst 1, 1) := by decide +kernel
theorem d_law_356 : decode code 356 = .ok (.iadd, 1) := by decide +kernel
theorem d_law_357 : decode code 357 = .ok (.iaload, 1) := by decide +kernel
theorem d_law_358 : decode code 358 = .ok (.invokevirtual 56, 3) := by decide +kernel
theorem d_law_361 : decode code 361 = .ok (.aload_n 2, 1) := by decide +kernel
theorem d_law_362 : decode code 362 = .ok (.aload_n 0, 1) := by decide +kernel
theorem d_law_363 : decode code 363 = .ok (.iload_n 3, 1) := by decide +kernel
theorem d_law_364 : decode code 364 = .ok (.iconst 1, 1) := by decide +kernel
theorem d_law_365 : decode code 365 = .ok (.iadd, 1) := by decide +kernel
theorem d_law_366 : decode code 366 = .ok (.iaload, 1) := by decide +kernel
theorem d_law_367 : decode code 367 = .ok (.invokevirtual 59, 3) := by decide +kernel
theorem d_law_370 : decode code 370 = .ok (.if_icmp .eq 205, 3) := by decide +kernel
theorem d_law_373 : decode code 373 = .ok (.iconst 0, 1) := by decide +kernel
theorem d_law_374 : decode code 374 = .ok (.ireturn, 1) := by decide +kernel
theorem d_law_375 : decode code 375 = .ok (.aload_n 1, 1) := by decide +kernel
theorem d_law_376 : decode code 376 = .ok (.invokevirtual 60, 3) := by decide +kernel
theorem d_law_379 : decode code 379 = .ok (.aload_n 2, 1) := by decide +kernel
theorem d_law_380 : decode code 380 = .ok (.invokevirtual 63, 3) := by decide +kernel
theorem d_law_383 : decode code 383 = .ok (.if_icmp .eq 192, 3) := by decide +kernel
theorem d_law_386 : decode code 386 = .ok (.iconst 0, 1) := by decide +kernel
theorem d_law_387 : decode code 387 = .ok (.ireturn, 1) := by decide +kernel
theorem d_law_388 : decode code 388 = .ok (.aload_n 1, 1) := by decide +kernel
theorem d_law_389 : decode code 389 = .ok (.aload_n 0, 1) := by decide +kernel
theorem d_law_390 : decode code 390 = .ok (.iload_n 3, 1) := by decide +kernel
theorem d_law_391 : decode code 391 = .ok (.iconst 1, 1) := by decide +kernel
theorem d_law_392 : decode code 392 = .ok (.iadd, 1) := by decide +kernel
theorem d_law_393 : decode code 393 = .ok (.iaload, 1) := by decide +kernel
theorem d_law_394 : decode code 394 = .ok (.aload_n 0, 1) := by decide +kernel
theorem d_law_395 : decode code 395 = .ok (.iload_n 3, 1) := by decide +kernel
theorem d_law_396 : decode code 396 = .ok (.iconst 2, 1) := by decide +kernel
theorem d_law_397 : decode code 397 = .ok (.iadd, 1) := by decide +kernel
theorem d_law_398 : decode code 398 = .ok (.iaload, 1) := by decide +kernel
theorem d_law_399 : decode code 399 = .ok (.invokevirtual 64, 3) := by decide +kernel
theorem d_law_402 : decode code 402 = .ok (.aload_n 2, 1) := by decide +kernel
theorem d_law_403 : decode code 403 = .ok (.aload_n 0, 1) := by decide +kernel
theorem d_law_404 : decode code 404 = .ok (.iload_n 3, 1) := by decide +kernel
theorem d_law_405 : decode code 405 = .ok (.iconst 1, 1) := by decide +kernel
theorem d_law_406 : decode code 406 = .ok (.iadd, 1) := by decide +kernel
theorem d_law_407 : decode code 407 = .ok (.iaload, 1) := by decide +kernel
theorem d_law_408 : decode code 408 = .ok (.aload_n 0, 1) := by decide +kernel
theorem d_law_409 : decode code 409 = .ok (.iload_n 3, 1) := by decide +kernel
theorem d_law_410 : decode code 410 = .ok (.iconst 2, 1) := by decide +kernel
theorem d_law_411 : decode code 411 = .ok (.iadd, 1) := by decide +kernel
theorem d_law_412 : decode code 412 = .ok (.iaload, 1) := by decide +kernel
theorem d_law_413 : decode code 413 = .ok (.invokevirtual 67, 3) := by decide +kernel
theorem d_law_416 : decode code 416 = .ok (.if_icmp .eq 159, 3) := by decide +kernel
theorem d_law_419 : decode code 419 = .ok (.iconst 0, 1) := by decide +kernel
theorem d_law_420 : decode code 420 = .ok (.ireturn, 1) := by decide +kernel
theorem d_law_421 : decode code 421 = .ok (.aload_n 1, 1) := by decide +kernel
theorem d_law_422 : decode code 422 = .ok (.aload_n 0, 1) := by decide +kernel
theorem d_law_423 : decode code 423 = .ok (.iload_n 3, 1) := by decide +kernel
theorem d_law_424 : decode code 424 = .ok (.iconst 1, 1) := by decide +kernel
theorem d_law_425 : decode code 425 = .ok (.iadd, 1) := by decide +kernel
theorem d_law_426 : decode code 426 = .ok (.iaload, 1) := by decide +kernel
theorem d_law_427 : decode code 427 = .ok (.invokevirtual 68, 3) := by decide +kernel
theorem d_law_430 : decode code 430 = .ok (.aload_n 2, 1) := by decide +kernel
theorem d_law_431 : decode code 431 = .ok (.aload_n 0, 1) := by decide +kernel
theorem d_law_432 : decode code 432 = .ok (.iload_n 3, 1) := by decide +kernel
theorem d_law_433 : decode code 433 = .ok (.iconst 1, 1) := by decide +kernel
theorem d_law_434 : decode code 434 = .ok (.iadd, 1) := by decide +kernel
theorem d_law_435 : decode code 435 = .ok (.iaload, 1) := by decide +kernel
theorem d_law_436 : decode code 436 = .ok (.invokevirtual 71, 3) := by decide +kernel
theorem d_law_439 : decode code 439 = .ok (.if_icmp .eq 136, 3) := by decide +kernel
theorem d_law_442 : decode code 442 = .ok (.iconst 0, 1) := by decide +kernel
theorem d_law_443 : decode code 443 = .ok (.ireturn, 1) := by decide +kernel
theorem d_law_444 : decode code 444 = .ok (.aload_n 1, 1) := by decide +kernel
theorem d_law_445 : decode code 445 = .ok (.aload_n 0, 1) := by decide +kernel
theorem d_law_446 : decode code 446 = .ok (.iload_n 3, 1) := by decide +kernel
theorem d_law_447 : decode code 447 = .ok (.iconst 1, 1) := by decide +kernel
theorem d_law_448 : decode code 448 = .ok (.iadd, 1) := by decide +kernel
theorem d_law_449 : decode code 449 = .ok (.iaload, 1) := by decide +kernel
theorem d_law_450 : decode code 450 = .ok (.invokevirtual 72, 3) := by decide +kernel
theorem d_law_453 : decode code 453 = .ok (.aload_n 2, 1) := by decide +kernel
theorem d_law_454 : decode code 454 = .ok (.aload_n 0, 1) := by decide +kernel
theorem d_law_455 : decode code 455 = .ok (.iload_n 3, 1) := by decide +kernel
theorem d_law_456 : decode code 456 = .ok (.iconst 1, 1) := by decide +kernel
theorem d_law_457 : decode code 457 = .ok (.iadd, 1) := by decide +kernel
theorem d_law_458 : decode code 458 = .ok (.iaload, 1) := by decide +kernel
theorem d_law_459 : decode code 459 = .ok (.invokevirtual 75, 3) := by decide +kernel
theorem d_law_462 : decode code 462 = .ok (.if_icmp .eq 113, 3) := by decide +kernel
theorem d_law_465 : decode code 465 = .ok (.iconst 0, 1) := by decide +kernel
theorem d_law_466 : decode code 466 = .ok (.ireturn, 1) := by decide +kernel
theorem d_law_467 : decode code 467 = .ok (.aload_n 1, 1) := by decide +kernel
theorem d_law_468 : decode code 468 = .ok (.aload_n 0, 1) := by decide +kernel
theorem d_law_469 : decode code 469 = .ok (.iload_n 3, 1) := by decide +kernel
theorem d_law_470 : decode code 470 = .ok (.iconst 1, 1) := by decide +kernel
theorem d_law_471 : decode code 471 = .ok (.iadd, 1) := by decide +kernel
theorem d_law_472 : decode code 472 = .ok (.iaload, 1) := by decide +kernel
theorem d_law_473 : decode code 473 = .ok (.invokevirtual 76, 3) := by decide +kernel
theorem d_law_476 : decode code 476 = .ok (.aload_n 2, 1) := by decide +kernel
theorem d_law_477 : decode code 477 = .ok (.aload_n 0, 1) := by decide +kernel
theorem d_law_478 : decode code 478 = .ok (.iload_n 3, 1) := by decide +kernel
theorem d_law_479 : decode code 479 = .ok (.iconst 1, 1) := by decide +kernel
theorem d_law_480 : decode code 480 = .ok (.iadd, 1) := by decide +kernel
theorem d_law_481 : decode code 481 = .ok (.iaload, 1) := by decide +kernel
theorem d_law_482 : decode code 482 = .ok (.invokevirtual 79, 3) := by decide +kernel
theorem d_law_485 : decode code 485 = .ok (.if_icmp .eq 90, 3) := by decide +kernel
theorem d_law_488 : decode code 488 = .ok (.iconst 0, 1) := by decide +kernel
theorem d_law_489 : decode code 489 = .ok (.ireturn, 1) := by decide +kernel
theorem d_law_490 : decode code 490 = .ok (.aload_n 1, 1) := by decide +kernel
theorem d_law_491 : decode code 491 = .ok (.aload_n 0, 1) := by decide +kernel
theorem d_law_492 : decode code 492 = .ok (.iload_n 3, 1) := by decide +kernel
theorem d_law_493 : decode code 493 = .ok (.iconst 1, 1) := by decide +kernel
theorem d_law_494 : decode code 494 = .ok (.iadd, 1) := by decide +kernel
theorem d_law_495 : decode code 495 = .ok (.iaload, 1) := by decide +kernel
theorem d_law_496 : decode code 496 = .ok (.invokevirtual 80, 3) := by decide +kernel
theorem d_law_499 : decode code 499 = .ok (.aload_n 2, 1) := by decide +kernel
theorem d_law_500 : decode code 500 = .ok (.aload_n 0, 1) := by decide +kernel
theorem d_law_501 : decode code 501 = .ok (.iload_n 3, 1) := by decide +kernel
theorem d_law_502 : decode code 502 = .ok (.iconst 1, 1) := by decide +kernel
theorem d_law_503 : decode code 503 = .ok (.iadd, 1) := by decide +kernel
theorem d_law_504 : decode code 504 = .ok (.iaload, 1) := by decide +kernel
theorem d_law_505 : decode code 505 = .ok (.invokevirtual 83, 3) := by decide +kernel
theorem d_law_508 : decode code 508 = .ok (.if_icmp .eq 67, 3) := by decide +kernel
theorem d_law_511 : decode code 511 = .ok (.iconst 0, 1) := by decide +kernel
theorem d_law_512 : decode code 512 = .ok (.ireturn, 1) := by decide +kernel
theorem d_law_513 : decode code 513 = .ok (.aload_n 1, 1) := by decide +kernel
theorem d_law_514 : decode code 514 = .ok (.invokevirtual 84, 3) := by decide +kernel
theorem d_law_517 : decode code 517 = .ok (.aload_n 2, 1) := by decide +kernel
theorem d_law_518 : decode code 518 = .ok (.invokevirtual 87, 3) := by decide +kernel
theorem d_law_521 : decode code 521 = .ok (.if_icmp .eq 54, 3) := by decide +kernel
theorem d_law_524 : decode code 524 = .ok (.iconst 0, 1) := by decide +kernel
theorem d_law_525 : decode code 525 = .ok (.ireturn, 1) := by decide +kernel
theorem d_law_526 : decode code 526 = .ok (.aload_n 1, 1) := by decide +kernel
theorem d_law_527 : decode code 527 = .ok (.aload_n 0, 1) := by decide +kernel
theorem d_law_528 : decode code 528 = .ok (.iload_n 3, 1) := by decide +kernel
theorem d_law_529 : decode code 529 = .ok (.iconst 1, 1) := by decide +kernel
theorem d_law_530 : decode code 530 = .ok (.iadd, 1) := by decide +kernel
theorem d_law_531 : decode code 531 = .ok (.iaload, 1) := by decide +kernel
theorem d_law_532 : decode code 532 = .ok (.invokevirtual 88, 3) := by decide +kernel
theorem d_law_535 : decode code 535 = .ok (.aload_n 2, 1) := by decide +kernel
theorem d_law_536 : decode code 536 = .ok (.aload_n 0, 1) := by decide +kernel
theorem d_law_537 : decode code 537 = .ok (.iload_n 3, 1) := by decide +kernel
theorem d_law_538 : decode code 538 = .ok (.iconst 1, 1) := by decide +kernel
theorem d_law_539 : decode code 539 = .ok (.iadd, 1) := by decide +kernel
theorem d_law_540 : decode code 540 = .ok (.iaload, 1) := by decide +kernel
theorem d_law_541 : decode code 541 = .ok (.invokevirtual 91, 3) := by decide +kernel
theorem d_law_544 : decode code 544 = .ok (.if_icmp .eq 31, 3) := by decide +kernel
theorem d_law_547 : decode code 547 = .ok (.iconst 0, 1) := by decide +kernel
theorem d_law_548 : decode code 548 = .ok (.ireturn, 1) := by decide +kernel
theorem d_law_549 : decode code 549 = .ok (.aload_n 1, 1) := by decide +kernel
theorem d_law_550 : decode code 550 = .ok (.invokevirtual 92, 3) := by decide +kernel
theorem d_law_553 : decode code 553 = .ok (.aload_n 2, 1) := by decide +kernel
theorem d_law_554 : decode code 554 = .ok (.invokevirtual 95, 3) := by decide +kernel
theorem d_law_557 : decode code 557 = .ok (.if_icmp .eq 18, 3) := by decide +kernel
theorem d_law_560 : decode code 560 = .ok (.iconst 0, 1) := by decide +kernel
theorem d_law_561 : decode code 561 = .ok (.ireturn, 1) := by decide +kernel
theorem d_law_562 : decode code 562 = .ok (.aload_n 1, 1) := by decide +kernel
theorem d_law_563 : decode code 563 = .ok (.invokevirtual 96, 3) := by decide +kernel
theorem d_law_566 : decode code 566 = .ok (.aload_n 2, 1) := by decide +kernel
theorem d_law_567 : decode code 567 = .ok (.invokevirtual 99, 3) := by decide +kernel
theorem d_law_570 : decode code 570 = .ok (.if_icmp .eq 5, 3) := by decide +kernel
theorem d_law_573 : decode code 573 = .ok (.iconst 0, 1) := by decide +kernel
theorem d_law_574 : decode code 574 = .ok (.ireturn, 1) := by decide +kernel
theorem d_law_575 : decode code 575 = .ok (.iinc 3 3, 3) := by decide +kernel
theorem d_law_578 : decode code 578 = .ok (.goto (-560), 3) := by decide +kernel
theorem d_law_581 : decode code 581 = .ok (.iconst 1, 1) := by decide +kernel
theorem d_law_582 : decode code 582 = .ok (.ireturn, 1) := by decide +kernel
end
section
def R_law : String := "DetourHookerLaw"
def lw_P (b : Addr) (xs : List Int32) (args : Array Value) (s : State) : Prop := args = #[.ref b] ∧ s.IntsAt b xs ∧ xs.length ≤ 1536 ∧ (Jvm.Cond.and given_1 narrow_1).before args s = true
def lw_Q (_ : Array Value) (s : State) (o : Outcome) (t : State) : Prop := o = .returned (some (.int 1)) ∧ Framed s o t [] 18 639
def lw_Z (below : List Frame) (a : Array Value) (s : State) : State → Prop := fun t => ∃ o, t.status = .running ∧ Ended t below o ∧ lw_Q a s o t
/-- the law's own end, with 1 on the stack, nothing written that was there before, its room as the claim has it -/
theorem lw_ret {p : Program} {l : Launch} {e : Env} {s : State} {m : MethodId} {below : List Frame} {meth : Method} {c : Code} {b : Nat} (hx : p.tables.exec = Jvm.exec) (hb : c.code = code) (hr : meth.sig.returnType = ret) (hlocks : meth.locks = false) {pc : Nat} {H : Heap} {ls : Array Slot} (hdg : decode code pc = .ok (.ireturn, 1)) : W p l e room_1 s m #[Value.ref b] below meth c H [] 18 639 (lw_Z below #[Value.ref b] s) (F0 m pc ls [.int 1]) := by
  intro T hT X
  obtain ⟨fs, hret, hrun, hended, hW, hframe⟩ := X.leave (v := some (.int 1)) (hlocks := hlocks) (fun h => by rw [hr] at h; cases h)
  have hmeth' : T.vm.method? m = some meth := X.method'
  refine ⟨T.setFrames fs, ?_, .returned (some (.int 1)), hrun, hended, rfl, ⟨_, rfl⟩, hW, hframe⟩
  jvm_step X.here [X.here.top, hx, hb, hdg, hmeth', hr, ret, narrow_b1]
  (try refine ⟨rfl, ?_⟩); (try refine ⟨rfl, ?_⟩)
  first | (intro acts; rw [hret _ acts rfl rfl rfl]) | rw [hret _ _ rfl rfl rfl]
  exact Steps.refl _
/-- what holds at the law's entry: the machine, the code, the tables' words (any of lw_tbl by 'hts w (by decide +kernel)'), the script of L ints xs at the cell b, what the Statement gives of the start (any of its parts by flat_of_before) -/
def lw_At (p : Program) (s : State) (m : MethodId) (meth : Method) (c : Code) (b L : Nat) (xs : Nat → Int32) : Prop :=
  p.tables.exec = Jvm.exec ∧ c.code = code ∧ meth.sig.returnType = ret ∧ c.maxLocals = 4 ∧ s.vm.findClass R_law = some m.cls ∧ (∀ w ∈ lw_tbl, w.before #[Value.ref b] s = true) ∧ va_X b L xs s s.heap ∧ b < s.heap.size ∧ meth.locks = false ∧ (Jvm.Cond.and given_1 narrow_1).before #[Value.ref b] s = true
/-- both objects answer alike, and the invariant holds behind them -/
def dh_Stp (KH KM : MD) (vs : List PV) (Inv : SG → SG → Prop) (σ μ : SG) : Prop := ∃ (r : Int32) (σ2 μ2 : SG), CF KH (.inr 0 :: vs) (σ, μ) (some r) (σ2, μ) ∧ CF KM (.inr 16 :: vs) (σ2, μ) (some r) (σ2, μ2) ∧ Inv σ2 μ2
def dh_All (Inv : SG → SG → Prop) : Prop := ∀ σ μ : SG, Inv σ μ → dh_Stp k_H_halt k_M_halt [] Inv σ μ ∧ (∀ v : Int32, dh_Stp k_H_inc k_M_inc [.inl v] Inv σ μ) ∧ (∀ v : Int32, dh_Stp k_H_dec k_M_dec [.inl v] Inv σ μ) ∧ (∀ v w : Int32, dh_Stp k_H_move k_M_move [.inl v, .inl w] Inv σ μ) ∧ (∀ v : Int32, dh_Stp k_H_jump k_M_jump [.inl v] Inv σ μ) ∧ (∀ v w : Int32, dh_Stp k_H_branch k_M_branch [.inl v, .inl w] Inv σ μ) ∧ (∀ v : Int32, dh_Stp k_H_call k_M_call [.inl v] Inv σ μ) ∧ dh_Stp k_H_giveBack k_M_giveBack [] Inv σ μ ∧ (∀ v : Int32, dh_Stp k_H_where k_M_where [.inl v] Inv σ μ) ∧ dh_Stp k_H_length k_M_length [] Inv σ μ ∧ (∀ v : Int32, dh_Stp k_H_peek k_M_peek [.inl v] Inv σ μ) ∧ dh_Stp k_H_clear k_M_clear [] Inv σ μ ∧ (∀ v w : Int32, dh_Stp k_H_setRegister k_M_setRegister [.inl v, .inl w] Inv σ μ) ∧ (∀ v : Int32, dh_Stp k_H_register k_M_register [.inl v] Inv σ μ) ∧ (∀ v : Int32, dh_Stp k_H_hook k_M_hook [.inl v] Inv σ μ) ∧ (∀ v : Int32, dh_Stp k_H_unhook k_M_unhook [.inl v] Inv σ μ) ∧ (∀ v : Int32, dh_Stp k_H_calls k_M_calls [.inl v] Inv σ μ) ∧ dh_Stp k_H_hooks k_M_hooks [] Inv σ μ ∧ (∀ v : Int32, dh_Stp k_H_run k_M_run [.inl v] Inv σ μ) ∧ dh_Stp k_H_ending k_M_ending [] Inv σ μ ∧ dh_Stp k_H_executed k_M_executed [] Inv σ μ
theorem gtL {L i : Nat} (hL : L ≤ 1536) (hi : i ≤ 2000) : (nI L - 3 < nI i) ↔ L < i + 3 := by
  rw [Int32.lt_iff_toInt_lt, show (3 : Int32) = nI 3 from rfl, pk_sub_toInt (by omega) (by decide), nI_toInt (by omega)]
  omega
set_option maxHeartbeats 4000000 in
set_option maxRecDepth 100000 in
/-- THE LAW'S LOOP -/
theorem law_loop {Inv : SG → SG → Prop} (hI : dh_All Inv) {p : Program} {l : Launch} {e : Env} {s : State} {m : MethodId} {below : List Frame} {meth : Method} {c : Code} {D : va_G} {ad : Nat → Nat} {cI cZ : ClassId} {b L : Nat} {xs : Nat → Int32} (hL : L ≤ 1536) (C0 : lw_At p s m meth c b L xs) (hK : va_K D classes (tys2 cI cZ) s) :
    ∀ (n i : Nat), i ≤ L → L + 1 ≤ i + n → ∀ (σ μ : SG), Inv σ μ → ∀ (H : Heap) (locs : List Loc), va_P D classes (wd ad cI cZ (σ, μ)) H → va_D (fun q : Nat => s.heap.size ≤ q) (wd ad cI cZ (σ, μ)) → va_S (fun q : Nat => s.heap.size ≤ q) s.heap H locs → ∀ (ls : Array Slot), lv_has ls 4 [(0, .ref b), (1, .ref (ad 0)), (2, .ref (ad 16)), (3, .int (nI i))] → W p l e room_1 s m #[Value.ref b] below meth c H locs 18 639 (lw_Z below #[Value.ref b] s) (F0 m 18 ls []) := by
  obtain ⟨hx, hb, hr, hml, hown, hts0, hX, hbl, hlocks, hgv⟩ := C0
  have hts : ∀ w ∈ tb, w.before #[Value.ref b] s = true := fun w hw => hts0 w (List.mem_filter.mp hw).1
  have hA : ∀ q : Nat, s.heap.size ≤ q → (fun q : Nat => s.heap.size ≤ q) q := fun _ h => h
  have hbA : ¬ (fun q : Nat => s.heap.size ≤ q) b := Nat.not_le.mpr hbl
  intro n
  induction n with
  | zero =>
    intro i h1 h2
    exact absurd h2 (by omega)
  | succ n ih =>
    intro i hi hin σ μ hinv H locs hP hD hS ls hl
    refine lv_iload_n hx hb d_law_18 rfl (lv_at hl 3 rfl) ?_
    refine lv_aload_n hx hb d_law_19 rfl (lv_at hl 0 rfl) ?_
    refine va_slen hx hb hX hbl hbA hS d_law_20 ?_
    refine lv_iconst (v := 3) hx hb d_law_21 (by decide) ?_
    refine lv_isub hx hb d_law_22 ?_
    refine lv_icmp_gt (tgt := 581) hx hb d_law_23 (by decide) (fun c23 => ?_) (fun c23 => ?_)
    · refine lv_iconst (v := 1) hx hb d_law_581 (by decide) ?_
      refine va_forget (fun q hq => hS.2.2 q hq) ?_
      exact lw_ret hx hb hr hlocks d_law_582
    · have hi3 : i + 3 ≤ L := Nat.not_lt.mp (fun q => c23 ((gtL hL (by omega)).mpr q))
      refine lv_aload_n hx hb d_law_26 rfl (lv_at hl 0 rfl) ?_
      refine lv_iload_n hx hb d_law_27 rfl (lv_at hl 3 rfl) ?_
      refine va_sld hx hb hX hbl hbA hS (vp_in_nI (show i < L by omega) (by omega)) d_law_28 ?_
      refine lv_bipush (v := 31) hx hb d_law_29 (by decide) ?_
      refine lv_iand hx hb d_law_31 ?_
      obtain ⟨j, hj, ej⟩ := pk_andE (xs (nI i).toNatClampNeg) (m := 31) 5 rfl
      rw [ej]
      have hend : ∀ (σ μ : SG), Inv σ μ → ∀ (H : Heap) (locs : List Loc), va_P D classes (wd ad cI cZ (σ, μ)) H → va_D (fun q : Nat => s.heap.size ≤ q) (wd ad cI cZ (σ, μ)) → va_S (fun q : Nat => s.heap.size ≤ q) s.heap H locs → W p l e room_1 s m #[Value.ref b] below meth c H locs 18 639 (lw_Z below #[Value.ref b] s) (F0 m 575 ls []) := by
        intro σ μ hinv H locs hP hD hS
        refine lv_iinc (v := nI (i + 3)) (lv' := [(3, .int (nI (i + 3))), (0, .ref b), (1, .ref (ad 0)), (2, .ref (ad 16))]) hx hb d_law_575 hl (k := 3) rfl (nI_add i 3) (by decide) rfl (fun ls hl => ?_)
        refine lv_goto (tgt := 18) hx hb d_law_578 (by decide) ?_
        exact ih (i + 3) hi3 (by omega) σ μ hinv H locs hP hD hS ls (lv_sub hl [1, 2, 3, 0] rfl)
      obtain ⟨t0, t1, t2, t3, t4, t5, t6, t7, t8, t9, t10, t11, t12, t13, t14, t15, t16, t17, t18, t19, t20⟩ := hI σ μ hinv
      rcases (show j = 0 ∨ j = 1 ∨ j = 2 ∨ j = 3 ∨ j = 4 ∨ j = 5 ∨ j = 6 ∨ j = 7 ∨ j = 8 ∨ j = 9 ∨ j = 10 ∨ j = 11 ∨ j = 12 ∨ j = 13 ∨ j = 14 ∨ j = 15 ∨ j = 16 ∨ j = 17 ∨ j = 18 ∨ j = 19 ∨ j = 20 ∨ 21 ≤ j by omega) with rfl | rfl | rfl | rfl | rfl | rfl | rfl | rfl | rfl | rfl | rfl | rfl | rfl | rfl | rfl | rfl | rfl | rfl | rfl | rfl | rfl | hj2
      · refine lv_tableIn (off := 100) (tgt := 132) hx hb d_law_32 (by decide) (by decide) (by decide) (by decide) ?_
        obtain ⟨r, σ2, μ2, cH, cM, hinv2⟩ := t0
        refine lv_aload_n hx hb d_law_132 rfl (lv_at hl 1 rfl) ?_
        refine W_call (K' := k_H_halt) (n := 0) (own := "DetourHookerLaw") (As := []) (o := 0) (rest := []) (r1 := some r) cH ok_H_halt ml_law_13 pr_H_halt (Or.inl ⟨rfl, rfl⟩) rfl ⟨Nat.le_of_ble_eq_true rfl, Nat.le_of_ble_eq_true rfl⟩ ⟨Nat.le_of_ble_eq_true rfl, Nat.le_of_ble_eq_true rfl⟩ hx hb hml hown hts hK hA hP hD hS hl.1 (Nat.le_of_ble_eq_true rfl) d_law_133 (fun H locs hP hD hS => ?_)
        refine W.eq (g2 := F0 m 136 ls [.int r]) rfl ?_
        refine lv_aload_n hx hb d_law_136 rfl (lv_at hl 2 rfl) ?_
        refine W_call (K' := k_M_halt) (n := 0) (own := "DetourHookerLaw") (As := []) (o := 16) (rest := [.int r]) (r1 := some r) cM ok_M_halt ml_law_17 pr_M_halt (Or.inr ⟨rfl, rfl⟩) rfl ⟨Nat.le_of_ble_eq_true rfl, Nat.le_of_ble_eq_true rfl⟩ ⟨Nat.le_of_ble_eq_true rfl, Nat.le_of_ble_eq_true rfl⟩ hx hb hml hown hts hK hA hP hD hS hl.1 (Nat.le_of_ble_eq_true rfl) d_law_137 (fun H locs hP hD hS => ?_)
        refine W.eq (g2 := F0 m 140 ls [.int r, .int r]) rfl ?_
        refine lv_icmp_eq (tgt := 575) hx hb d_law_140 (by decide) (fun _ => ?_) (fun q => absurd rfl q)
        exact hend σ2 μ2 hinv2 H locs hP hD hS
      · refine lv_tableIn (off := 113) (tgt := 145) hx hb d_law_32 (by decide) (by decide) (by decide) (by decide) ?_
        obtain ⟨r, σ2, μ2, cH, cM, hinv2⟩ := t1 (xs (nI (i + 1)).toNatClampNeg)
        refine lv_aload_n hx hb d_law_145 rfl (lv_at hl 1 rfl) ?_
        refine lv_aload_n hx hb d_law_146 rfl (lv_at hl 0 rfl) ?_
        refine lv_iload_n hx hb d_law_147 rfl (lv_at hl 3 rfl) ?_
        refine lv_iconst (v := 1) hx hb d_law_148 (by decide) ?_
        refine lv_iadd hx hb d_law_149 ?_
        rw [show nI i + 1 = nI (i + 1) from nI_add i 1]
        refine va_sld hx hb hX hbl hbA hS (vp_in_nI (show i + 1 < L by omega) (by omega)) d_law_150 ?_
        refine W_call (K' := k_H_inc) (n := 1) (own := "DetourHookerLaw") (As := [.inl (xs (nI (i + 1)).toNatClampNeg)]) (o := 0) (rest := []) (r1 := some r) cH ok_H_inc ml_law_18 pr_H_inc (Or.inl ⟨rfl, rfl⟩) rfl ⟨Nat.le_of_ble_eq_true rfl, Nat.le_of_ble_eq_true rfl⟩ ⟨Nat.le_of_ble_eq_true rfl, Nat.le_of_ble_eq_true rfl⟩ hx hb hml hown hts hK hA hP hD hS hl.1 (Nat.le_of_ble_eq_true rfl) d_law_151 (fun H locs hP hD hS => ?_)
        refine W.eq (g2 := F0 m 154 ls [.int r]) rfl ?_
        refine lv_aload_n hx hb d_law_154 rfl (lv_at hl 2 rfl) ?_
        refine lv_aload_n hx hb d_law_155 rfl (lv_at hl 0 rfl) ?_
        refine lv_iload_n hx hb d_law_156 rfl (lv_at hl 3 rfl) ?_
        refine lv_iconst (v := 1) hx hb d_law_157 (by decide) ?_
        refine lv_iadd hx hb d_law_158 ?_
        rw [show nI i + 1 = nI (i + 1) from nI_add i 1]
        refine va_sld hx hb hX hbl hbA hS (vp_in_nI (show i + 1 < L by omega) (by omega)) d_law_159 ?_
        refine W_call (K' := k_M_inc) (n := 1) (own := "DetourHookerLaw") (As := [.inl (xs (nI (i + 1)).toNatClampNeg)]) (o := 16) (rest := [.int r]) (r1 := some r) cM ok_M_inc ml_law_22 pr_M_inc (Or.inr ⟨rfl, rfl⟩) rfl ⟨Nat.le_of_ble_eq_true rfl, Nat.le_of_ble_eq_true rfl⟩ ⟨Nat.le_of_ble_eq_true rfl, Nat.le_of_ble_eq_true rfl⟩ hx hb hml hown hts hK hA hP hD hS hl.1 (Nat.le_of_ble_eq_true rfl) d_law_160 (fun H locs hP hD hS => ?_)
        refine W.eq (g2 := F0 m 163 ls [.int r, .int r]) rfl ?_
        refine lv_icmp_eq (tgt := 575) hx hb d_law_163 (by decide) (fun _ => ?_) (fun q => absurd rfl q)
        exact hend σ2 μ2 hinv2 H locs hP hD hS
      · refine lv_tableIn (off := 136) (tgt := 168) hx hb d_law_32 (by decide) (by decide) (by decide) (by decide) ?_
        obtain ⟨r, σ2, μ2, cH, cM, hinv2⟩ := t2 (xs (nI (i + 1)).toNatClampNeg)
        refine lv_aload_n hx hb d_law_168 rfl (lv_at hl 1 rfl) ?_
        refine lv_aload_n hx hb d_law_169 rfl (lv_at hl 0 rfl) ?_
        refine lv_iload_n hx hb d_law_170 rfl (lv_at hl 3 rfl) ?_
        refine lv_iconst (v := 1) hx hb d_law_171 (by decide) ?_
        refine lv_iadd hx hb d_law_172 ?_
        rw [show nI i + 1 = nI (i + 1) from nI_add i 1]
        refine va_sld hx hb hX hbl hbA hS (vp_in_nI (show i + 1 < L by omega) (by omega)) d_law_173 ?_
        refine W_call (K' := k_H_dec) (n := 1) (own := "DetourHookerLaw") (As := [.inl (xs (nI (i + 1)).toNatClampNeg)]) (o := 0) (rest := []) (r1 := some r) cH ok_H_dec ml_law_23 pr_H_dec (Or.inl ⟨rfl, rfl⟩) rfl ⟨Nat.le_of_ble_eq_true rfl, Nat.le_of_ble_eq_true rfl⟩ ⟨Nat.le_of_ble_eq_true rfl, Nat.le_of_ble_eq_true rfl⟩ hx hb hml hown hts hK hA hP hD hS hl.1 (Nat.le_of_ble_eq_true rfl) d_law_174 (fun H locs hP hD hS => ?_)
        refine W.eq (g2 := F0 m 177 ls [.int r]) rfl ?_
        refine lv_aload_n hx hb d_law_177 rfl (lv_at hl 2 rfl) ?_
        refine lv_aload_n hx hb d_law_178 rfl (lv_at hl 0 rfl) ?_
        refine lv_iload_n hx hb d_law_179 rfl (lv_at hl 3 rfl) ?_
        refine lv_iconst (v := 1) hx hb d_law_180 (by decide) ?_
        refine lv_iadd hx hb d_law_181 ?_
        rw [show nI i + 1 = nI (i + 1) from nI_add i 1]
        refine va_sld hx hb hX hbl hbA hS (vp_in_nI (show i + 1 < L by omega) (by omega)) d_law_182 ?_
        refine W_call (K' := k_M_dec) (n := 1) (own := "DetourHookerLaw") (As := [.inl (xs (nI (i + 1)).toNatClampNeg)]) (o := 16) (rest := [.int r]) (r1 := some r) cM ok_M_dec ml_law_26 pr_M_dec (Or.inr ⟨rfl, rfl⟩) rfl ⟨Nat.le_of_ble_eq_true rfl, Nat.le_of_ble_eq_true rfl⟩ ⟨Nat.le_of_ble_eq_true rfl, Nat.le_of_ble_eq_true rfl⟩ hx hb hml hown hts hK hA hP hD hS hl.1 (Nat.le_of_ble_eq_true rfl) d_law_183 (fun H locs hP hD hS => ?_)
        refine W.eq (g2 := F0 m 186 ls [.int r, .int r]) rfl ?_
        refine lv_icmp_eq (tgt := 575) hx hb d_law_186 (by decide) (fun _ => ?_) (fun q => absurd rfl q)
        exact hend σ2 μ2 hinv2 H locs hP hD hS
      · refine lv_tableIn (off := 159) (tgt := 191) hx hb d_law_32 (by decide) (by decide) (by decide) (by decide) ?_
        obtain ⟨r, σ2, μ2, cH, cM, hinv2⟩ := t3 (xs (nI (i + 1)).toNatClampNeg) (xs (nI (i + 2)).toNatClampNeg)
        refine lv_aload_n hx hb d_law_191 rfl (lv_at hl 1 rfl) ?_
        refine lv_aload_n hx hb d_law_192 rfl (lv_at hl 0 rfl) ?_
        refine lv_iload_n hx hb d_law_193 rfl (lv_at hl 3 rfl) ?_
        refine lv_iconst (v := 1) hx hb d_law_194 (by decide) ?_
        refine lv_iadd hx hb d_law_195 ?_
        rw [show nI i + 1 = nI (i + 1) from nI_add i 1]
        refine va_sld hx hb hX hbl hbA hS (vp_in_nI (show i + 1 < L by omega) (by omega)) d_law_196 ?_
        refine lv_aload_n hx hb d_law_197 rfl (lv_at hl 0 rfl) ?_
        refine lv_iload_n hx hb d_law_198 rfl (lv_at hl 3 rfl) ?_
        refine lv_iconst (v := 2) hx hb d_law_199 (by decide) ?_
        refine lv_iadd hx hb d_law_200 ?_
        rw [show nI i + 2 = nI (i + 2) from nI_add i 2]
        refine va_sld hx hb hX hbl hbA hS (vp_in_nI (show i + 2 < L by omega) (by omega)) d_law_201 ?_
        refine W_call (K' := k_H_move) (n := 2) (own := "DetourHookerLaw") (As := [.inl (xs (nI (i + 1)).toNatClampNeg), .inl (xs (nI (i + 2)).toNatClampNeg)]) (o := 0) (rest := []) (r1 := some r) cH ok_H_move ml_law_27 pr_H_move (Or.inl ⟨rfl, rfl⟩) rfl ⟨Nat.le_of_ble_eq_true rfl, Nat.le_of_ble_eq_true rfl⟩ ⟨Nat.le_of_ble_eq_true rfl, Nat.le_of_ble_eq_true rfl⟩ hx hb hml hown hts hK hA hP hD hS hl.1 (Nat.le_of_ble_eq_true rfl) d_law_202 (fun H locs hP hD hS => ?_)
        refine W.eq (g2 := F0 m 205 ls [.int r]) rfl ?_
        refine lv_aload_n hx hb d_law_205 rfl (lv_at hl 2 rfl) ?_
        refine lv_aload_n hx hb d_law_206 rfl (lv_at hl 0 rfl) ?_
        refine lv_iload_n hx hb d_law_207 rfl (lv_at hl 3 rfl) ?_
        refine lv_iconst (v := 1) hx hb d_law_208 (by decide) ?_
        refine lv_iadd hx hb d_law_209 ?_
        rw [show nI i + 1 = nI (i + 1) from nI_add i 1]
        refine va_sld hx hb hX hbl hbA hS (vp_in_nI (show i + 1 < L by omega) (by omega)) d_law_210 ?_
        refine lv_aload_n hx hb d_law_211 rfl (lv_at hl 0 rfl) ?_
        refine lv_iload_n hx hb d_law_212 rfl (lv_at hl 3 rfl) ?_
        refine lv_iconst (v := 2) hx hb d_law_213 (by decide) ?_
        refine lv_iadd hx hb d_law_214 ?_
        rw [show nI i + 2 = nI (i + 2) from nI_add i 2]
        refine va_sld hx hb hX hbl hbA hS (vp_in_nI (show i + 2 < L by omega) (by omega)) d_law_215 ?_
        refine W_call (K' := k_M_move) (n := 2) (own := "DetourHookerLaw") (As := [.inl (xs (nI (i + 1)).toNatClampNeg), .inl (xs (nI (i + 2)).toNatClampNeg)]) (o := 16) (rest := [.int r]) (r1 := some r) cM ok_M_move ml_law_31 pr_M_move (Or.inr ⟨rfl, rfl⟩) rfl ⟨Nat.le_of_ble_eq_true rfl, Nat.le_of_ble_eq_true rfl⟩ ⟨Nat.le_of_ble_eq_true rfl, Nat.le_of_ble_eq_true rfl⟩ hx hb hml hown hts hK hA hP hD hS hl.1 (Nat.le_of_ble_eq_true rfl) d_law_216 (fun H locs hP hD hS => ?_)
        refine W.eq (g2 := F0 m 219 ls [.int r, .int r]) rfl ?_
        refine lv_icmp_eq (tgt := 575) hx hb d_law_219 (by decide) (fun _ => ?_) (fun q => absurd rfl q)
        exact hend σ2 μ2 hinv2 H locs hP hD hS
      · refine lv_tableIn (off := 192) (tgt := 224) hx hb d_law_32 (by decide) (by decide) (by decide) (by decide) ?_
        obtain ⟨r, σ2, μ2, cH, cM, hinv2⟩ := t4 (xs (nI (i + 1)).toNatClampNeg)
        refine lv_aload_n hx hb d_law_224 rfl (lv_at hl 1 rfl) ?_
        refine lv_aload_n hx hb d_law_225 rfl (lv_at hl 0 rfl) ?_
        refine lv_iload_n hx hb d_law_226 rfl (lv_at hl 3 rfl) ?_
        refine lv_iconst (v := 1) hx hb d_law_227 (by decide) ?_
        refine lv_iadd hx hb d_law_228 ?_
        rw [show nI i + 1 = nI (i + 1) from nI_add i 1]
        refine va_sld hx hb hX hbl hbA hS (vp_in_nI (show i + 1 < L by omega) (by omega)) d_law_229 ?_
        refine W_call (K' := k_H_jump) (n := 1) (own := "DetourHookerLaw") (As := [.inl (xs (nI (i + 1)).toNatClampNeg)]) (o := 0) (rest := []) (r1 := some r) cH ok_H_jump ml_law_32 pr_H_jump (Or.inl ⟨rfl, rfl⟩) rfl ⟨Nat.le_of_ble_eq_true rfl, Nat.le_of_ble_eq_true rfl⟩ ⟨Nat.le_of_ble_eq_true rfl, Nat.le_of_ble_eq_true rfl⟩ hx hb hml hown hts hK hA hP hD hS hl.1 (Nat.le_of_ble_eq_true rfl) d_law_230 (fun H locs hP hD hS => ?_)
        refine W.eq (g2 := F0 m 233 ls [.int r]) rfl ?_
        refine lv_aload_n hx hb d_law_233 rfl (lv_at hl 2 rfl) ?_
        refine lv_aload_n hx hb d_law_234 rfl (lv_at hl 0 rfl) ?_
        refine lv_iload_n hx hb d_law_235 rfl (lv_at hl 3 rfl) ?_
        refine lv_iconst (v := 1) hx hb d_law_236 (by decide) ?_
        refine lv_iadd hx hb d_law_237 ?_
        rw [show nI i + 1 = nI (i + 1) from nI_add i 1]
        refine va_sld hx hb hX hbl hbA hS (vp_in_nI (show i + 1 < L by omega) (by omega)) d_law_238 ?_
        refine W_call (K' := k_M_jump) (n := 1) (own := "DetourHookerLaw") (As := [.inl (xs (nI (i + 1)).toNatClampNeg)]) (o := 16) (rest := [.int r]) (r1 := some r) cM ok_M_jump ml_law_35 pr_M_jump (Or.inr ⟨rfl, rfl⟩) rfl ⟨Nat.le_of_ble_eq_true rfl, Nat.le_of_ble_eq_true rfl⟩ ⟨Nat.le_of_ble_eq_true rfl, Nat.le_of_ble_eq_true rfl⟩ hx hb hml hown hts hK hA hP hD hS hl.1 (Nat.le_of_ble_eq_true rfl) d_law_239 (fun H locs hP hD hS => ?_)
        refine W.eq (g2 := F0 m 242 ls [.int r, .int r]) rfl ?_
        refine lv_icmp_eq (tgt := 575) hx hb d_law_242 (by decide) (fun _ => ?_) (fun q => absurd rfl q)
        exact hend σ2 μ2 hinv2 H locs hP hD hS
      · refine lv_tableIn (off := 215) (tgt := 247) hx hb d_law_32 (by decide) (by decide) (by decide) (by decide) ?_
        obtain ⟨r, σ2, μ2, cH, cM, hinv2⟩ := t5 (xs (nI (i + 1)).toNatClampNeg) (xs (nI (i + 2)).toNatClampNeg)
        refine lv_aload_n hx hb d_law_247 rfl (lv_at hl 1 rfl) ?_
        refine lv_aload_n hx hb d_law_248 rfl (lv_at hl 0 rfl) ?_
        refine lv_iload_n hx hb d_law_249 rfl (lv_at hl 3 rfl) ?_
        refine lv_iconst (v := 1) hx hb d_law_250 (by decide) ?_
        refine lv_iadd hx hb d_law_251 ?_
        rw [show nI i + 1 = nI (i + 1) from nI_add i 1]
        refine va_sld hx hb hX hbl hbA hS (vp_in_nI (show i + 1 < L by omega) (by omega)) d_law_252 ?_
        refine lv_aload_n hx hb d_law_253 rfl (lv_at hl 0 rfl) ?_
        refine lv_iload_n hx hb d_law_254 rfl (lv_at hl 3 rfl) ?_
        refine lv_iconst (v := 2) hx hb d_law_255 (by decide) ?_
        refine lv_iadd hx hb d_law_256 ?_
        rw [show nI i + 2 = nI (i + 2) from nI_add i 2]
        refine va_sld hx hb hX hbl hbA hS (vp_in_nI (show i + 2 < L by omega) (by omega)) d_law_257 ?_
        refine W_call (K' := k_H_branch) (n := 2) (own := "DetourHookerLaw") (As := [.inl (xs (nI (i + 1)).toNatClampNeg), .inl (xs (nI (i + 2)).toNatClampNeg)]) (o := 0) (rest := []) (r1 := some r) cH ok_H_branch ml_law_36 pr_H_branch (Or.inl ⟨rfl, rfl⟩) rfl ⟨Nat.le_of_ble_eq_true rfl, Nat.le_of_ble_eq_true rfl⟩ ⟨Nat.le_of_ble_eq_true rfl, Nat.le_of_ble_eq_true rfl⟩ hx hb hml hown hts hK hA hP hD hS hl.1 (Nat.le_of_ble_eq_true rfl) d_law_258 (fun H locs hP hD hS => ?_)
        refine W.eq (g2 := F0 m 261 ls [.int r]) rfl ?_
        refine lv_aload_n hx hb d_law_261 rfl (lv_at hl 2 rfl) ?_
        refine lv_aload_n hx hb d_law_262 rfl (lv_at hl 0 rfl) ?_
        refine lv_iload_n hx hb d_law_263 rfl (lv_at hl 3 rfl) ?_
        refine lv_iconst (v := 1) hx hb d_law_264 (by decide) ?_
        refine lv_iadd hx hb d_law_265 ?_
        rw [show nI i + 1 = nI (i + 1) from nI_add i 1]
        refine va_sld hx hb hX hbl hbA hS (vp_in_nI (show i + 1 < L by omega) (by omega)) d_law_266 ?_
        refine lv_aload_n hx hb d_law_267 rfl (lv_at hl 0 rfl) ?_
        refine lv_iload_n hx hb d_law_268 rfl (lv_at hl 3 rfl) ?_
        refine lv_iconst (v := 2) hx hb d_law_269 (by decide) ?_
        refine lv_iadd hx hb d_law_270 ?_
        rw [show nI i + 2 = nI (i + 2) from nI_add i 2]
        refine va_sld hx hb hX hbl hbA hS (vp_in_nI (show i + 2 < L by omega) (by omega)) d_law_271 ?_
        refine W_call (K' := k_M_branch) (n := 2) (own := "DetourHookerLaw") (As := [.inl (xs (nI (i + 1)).toNatClampNeg), .inl (xs (nI (i + 2)).toNatClampNeg)]) (o := 16) (rest := [.int r]) (r1 := some r) cM ok_M_branch ml_law_39 pr_M_branch (Or.inr ⟨rfl, rfl⟩) rfl ⟨Nat.le_of_ble_eq_true rfl, Nat.le_of_ble_eq_true rfl⟩ ⟨Nat.le_of_ble_eq_true rfl, Nat.le_of_ble_eq_true rfl⟩ hx hb hml hown hts hK hA hP hD hS hl.1 (Nat.le_of_ble_eq_true rfl) d_law_272 (fun H locs hP hD hS => ?_)
        refine W.eq (g2 := F0 m 275 ls [.int r, .int r]) rfl ?_
        refine lv_icmp_eq (tgt := 575) hx hb d_law_275 (by decide) (fun _ => ?_) (fun q => absurd rfl q)
        exact hend σ2 μ2 hinv2 H locs hP hD hS
      · refine lv_tableIn (off := 248) (tgt := 280) hx hb d_law_32 (by decide) (by decide) (by decide) (by decide) ?_
        obtain ⟨r, σ2, μ2, cH, cM, hinv2⟩ := t6 (xs (nI (i + 1)).toNatClampNeg)
        refine lv_aload_n hx hb d_law_280 rfl (lv_at hl 1 rfl) ?_
        refine lv_aload_n hx hb d_law_281 rfl (lv_at hl 0 rfl) ?_
        refine lv_iload_n hx hb d_law_282 rfl (lv_at hl 3 rfl) ?_
        refine lv_iconst (v := 1) hx hb d_law_283 (by decide) ?_
        refine lv_iadd hx hb d_law_284 ?_
        rw [show nI i + 1 = nI (i + 1) from nI_add i 1]
        refine va_sld hx hb hX hbl hbA hS (vp_in_nI (show i + 1 < L by omega) (by omega)) d_law_285 ?_
        refine W_call (K' := k_H_call) (n := 1) (own := "DetourHookerLaw") (As := [.inl (xs (nI (i + 1)).toNatClampNeg)]) (o := 0) (rest := []) (r1 := some r) cH ok_H_call ml_law_40 pr_H_call (Or.inl ⟨rfl, rfl⟩) rfl ⟨Nat.le_of_ble_eq_true rfl, Nat.le_of_ble_eq_true rfl⟩ ⟨Nat.le_of_ble_eq_true rfl, Nat.le_of_ble_eq_true rfl⟩ hx hb hml hown hts hK hA hP hD hS hl.1 (Nat.le_of_ble_eq_true rfl) d_law_286 (fun H locs hP hD hS => ?_)
        refine W.eq (g2 := F0 m 289 ls [.int r]) rfl ?_
        refine lv_aload_n hx hb d_law_289 rfl (lv_at hl 2 rfl) ?_
        refine lv_aload_n hx hb d_law_290 rfl (lv_at hl 0 rfl) ?_
        refine lv_iload_n hx hb d_law_291 rfl (lv_at hl 3 rfl) ?_
        refine lv_iconst (v := 1) hx hb d_law_292 (by decide) ?_
        refine lv_iadd hx hb d_law_293 ?_
        rw [show nI i + 1 = nI (i + 1) from nI_add i 1]
        refine va_sld hx hb hX hbl hbA hS (vp_in_nI (show i + 1 < L by omega) (by omega)) d_law_294 ?_
        refine W_call (K' := k_M_call) (n := 1) (own := "DetourHookerLaw") (As := [.inl (xs (nI (i + 1)).toNatClampNeg)]) (o := 16) (rest := [.int r]) (r1 := some r) cM ok_M_call ml_law_43 pr_M_call (Or.inr ⟨rfl, rfl⟩) rfl ⟨Nat.le_of_ble_eq_true rfl, Nat.le_of_ble_eq_true rfl⟩ ⟨Nat.le_of_ble_eq_true rfl, Nat.le_of_ble_eq_true rfl⟩ hx hb hml hown hts hK hA hP hD hS hl.1 (Nat.le_of_ble_eq_true rfl) d_law_295 (fun H locs hP hD hS => ?_)
        refine W.eq (g2 := F0 m 298 ls [.int r, .int r]) rfl ?_
        refine lv_icmp_eq (tgt := 575) hx hb d_law_298 (by decide) (fun _ => ?_) (fun q => absurd rfl q)
        exact hend σ2 μ2 hinv2 H locs hP hD hS
      · refine lv_tableIn (off := 271) (tgt := 303) hx hb d_law_32 (by decide) (by decide) (by decide) (by decide) ?_
        obtain ⟨r, σ2, μ2, cH, cM, hinv2⟩ := t7
        refine lv_aload_n hx hb d_law_303 rfl (lv_at hl 1 rfl) ?_
        refine W_call (K' := k_H_giveBack) (n := 0) (own := "DetourHookerLaw") (As := []) (o := 0) (rest := []) (r1 := some r) cH ok_H_giveBack ml_law_44 pr_H_giveBack (Or.inl ⟨rfl, rfl⟩) rfl ⟨Nat.le_of_ble_eq_true rfl, Nat.le_of_ble_eq_true rfl⟩ ⟨Nat.le_of_ble_eq_true rfl, Nat.le_of_ble_eq_true rfl⟩ hx hb hml hown hts hK hA hP hD hS hl.1 (Nat.le_of_ble_eq_true rfl) d_law_304 (fun H locs hP hD hS => ?_)
        refine W.eq (g2 := F0 m 307 ls [.int r]) rfl ?_
        refine lv_aload_n hx hb d_law_307 rfl (lv_at hl 2 rfl) ?_
        refine W_call (K' := k_M_giveBack) (n := 0) (own := "DetourHookerLaw") (As := []) (o := 16) (rest := [.int r]) (r1 := some r) cM ok_M_giveBack ml_law_47 pr_M_giveBack (Or.inr ⟨rfl, rfl⟩) rfl ⟨Nat.le_of_ble_eq_true rfl, Nat.le_of_ble_eq_true rfl⟩ ⟨Nat.le_of_ble_eq_true rfl, Nat.le_of_ble_eq_true rfl⟩ hx hb hml hown hts hK hA hP hD hS hl.1 (Nat.le_of_ble_eq_true rfl) d_law_308 (fun H locs hP hD hS => ?_)
        refine W.eq (g2 := F0 m 311 ls [.int r, .int r]) rfl ?_
        refine lv_icmp_eq (tgt := 575) hx hb d_law_311 (by decide) (fun _ => ?_) (fun q => absurd rfl q)
        exact hend σ2 μ2 hinv2 H locs hP hD hS
      · refine lv_tableIn (off := 284) (tgt := 316) hx hb d_law_32 (by decide) (by decide) (by decide) (by decide) ?_
        obtain ⟨r, σ2, μ2, cH, cM, hinv2⟩ := t8 (xs (nI (i + 1)).toNatClampNeg)
        refine lv_aload_n hx hb d_law_316 rfl (lv_at hl 1 rfl) ?_
        refine lv_aload_n hx hb d_law_317 rfl (lv_at hl 0 rfl) ?_
        refine lv_iload_n hx hb d_law_318 rfl (lv_at hl 3 rfl) ?_
        refine lv_iconst (v := 1) hx hb d_law_319 (by decide) ?_
        refine lv_iadd hx hb d_law_320 ?_
        rw [show nI i + 1 = nI (i + 1) from nI_add i 1]
        refine va_sld hx hb hX hbl hbA hS (vp_in_nI (show i + 1 < L by omega) (by omega)) d_law_321 ?_
        refine W_call (K' := k_H_where) (n := 1) (own := "DetourHookerLaw") (As := [.inl (xs (nI (i + 1)).toNatClampNeg)]) (o := 0) (rest := []) (r1 := some r) cH ok_H_where ml_law_48 pr_H_where (Or.inl ⟨rfl, rfl⟩) rfl ⟨Nat.le_of_ble_eq_true rfl, Nat.le_of_ble_eq_true rfl⟩ ⟨Nat.le_of_ble_eq_true rfl, Nat.le_of_ble_eq_true rfl⟩ hx hb hml hown hts hK hA hP hD hS hl.1 (Nat.le_of_ble_eq_true rfl) d_law_322 (fun H locs hP hD hS => ?_)
        refine W.eq (g2 := F0 m 325 ls [.int r]) rfl ?_
        refine lv_aload_n hx hb d_law_325 rfl (lv_at hl 2 rfl) ?_
        refine lv_aload_n hx hb d_law_326 rfl (lv_at hl 0 rfl) ?_
        refine lv_iload_n hx hb d_law_327 rfl (lv_at hl 3 rfl) ?_
        refine lv_iconst (v := 1) hx hb d_law_328 (by decide) ?_
        refine lv_iadd hx hb d_law_329 ?_
        rw [show nI i + 1 = nI (i + 1) from nI_add i 1]
        refine va_sld hx hb hX hbl hbA hS (vp_in_nI (show i + 1 < L by omega) (by omega)) d_law_330 ?_
        refine W_call (K' := k_M_where) (n := 1) (own := "DetourHookerLaw") (As := [.inl (xs (nI (i + 1)).toNatClampNeg)]) (o := 16) (rest := [.int r]) (r1 := some r) cM ok_M_where ml_law_51 pr_M_where (Or.inr ⟨rfl, rfl⟩) rfl ⟨Nat.le_of_ble_eq_true rfl, Nat.le_of_ble_eq_true rfl⟩ ⟨Nat.le_of_ble_eq_true rfl, Nat.le_of_ble_eq_true rfl⟩ hx hb hml hown hts hK hA hP hD hS hl.1 (Nat.le_of_ble_eq_true rfl) d_law_331 (fun H locs hP hD hS => ?_)
        refine W.eq (g2 := F0 m 334 ls [.int r, .int r]) rfl ?_
        refine lv_icmp_eq (tgt := 575) hx hb d_law_334 (by decide) (fun _ => ?_) (fun q => absurd rfl q)
        exact hend σ2 μ2 hinv2 H locs hP hD hS
      · refine lv_tableIn (off := 307) (tgt := 339) hx hb d_law_32 (by decide) (by decide) (by decide) (by decide) ?_
        obtain ⟨r, σ2, μ2, cH, cM, hinv2⟩ := t9
        refine lv_aload_n hx hb d_law_339 rfl (lv_at hl 1 rfl) ?_
        refine W_call (K' := k_H_length) (n := 0) (own := "DetourHookerLaw") (As := []) (o := 0) (rest := []) (r1 := some r) cH ok_H_length ml_law_52 pr_H_length (Or.inl ⟨rfl, rfl⟩) rfl ⟨Nat.le_of_ble_eq_true rfl, Nat.le_of_ble_eq_true rfl⟩ ⟨Nat.le_of_ble_eq_true rfl, Nat.le_of_ble_eq_true rfl⟩ hx hb hml hown hts hK hA hP hD hS hl.1 (Nat.le_of_ble_eq_true rfl) d_law_340 (fun H locs hP hD hS => ?_)
        refine W.eq (g2 := F0 m 343 ls [.int r]) rfl ?_
        refine lv_aload_n hx hb d_law_343 rfl (lv_at hl 2 rfl) ?_
        refine W_call (K' := k_M_length) (n := 0) (own := "DetourHookerLaw") (As := []) (o := 16) (rest := [.int r]) (r1 := some r) cM ok_M_length ml_law_55 pr_M_length (Or.inr ⟨rfl, rfl⟩) rfl ⟨Nat.le_of_ble_eq_true rfl, Nat.le_of_ble_eq_true rfl⟩ ⟨Nat.le_of_ble_eq_true rfl, Nat.le_of_ble_eq_true rfl⟩ hx hb hml hown hts hK hA hP hD hS hl.1 (Nat.le_of_ble_eq_true rfl) d_law_344 (fun H locs hP hD hS => ?_)
        refine W.eq (g2 := F0 m 347 ls [.int r, .int r]) rfl ?_
        refine lv_icmp_eq (tgt := 575) hx hb d_law_347 (by decide) (fun _ => ?_) (fun q => absurd rfl q)
        exact hend σ2 μ2 hinv2 H locs hP hD hS
      · refine lv_tableIn (off := 320) (tgt := 352) hx hb d_law_32 (by decide) (by decide) (by decide) (by decide) ?_
        obtain ⟨r, σ2, μ2, cH, cM, hinv2⟩ := t10 (xs (nI (i + 1)).toNatClampNeg)
        refine lv_aload_n hx hb d_law_352 rfl (lv_at hl 1 rfl) ?_
        refine lv_aload_n hx hb d_law_353 rfl (lv_at hl 0 rfl) ?_
        refine lv_iload_n hx hb d_law_354 rfl (lv_at hl 3 rfl) ?_
        refine lv_iconst (v := 1) hx hb d_law_355 (by decide) ?_
        refine lv_iadd hx hb d_law_356 ?_
        rw [show nI i + 1 = nI (i + 1) from nI_add i 1]
        refine va_sld hx hb hX hbl hbA hS (vp_in_nI (show i + 1 < L by omega) (by omega)) d_law_357 ?_
        refine W_call (K' := k_H_peek) (n := 1) (own := "DetourHookerLaw") (As := [.inl (xs (nI (i + 1)).toNatClampNeg)]) (o := 0) (rest := []) (r1 := some r) cH ok_H_peek ml_law_56 pr_H_peek (Or.inl ⟨rfl, rfl⟩) rfl ⟨Nat.le_of_ble_eq_true rfl, Nat.le_of_ble_eq_true rfl⟩ ⟨Nat.le_of_ble_eq_true rfl, Nat.le_of_ble_eq_true rfl⟩ hx hb hml hown hts hK hA hP hD hS hl.1 (Nat.le_of_ble_eq_true rfl) d_law_358 (fun H locs hP hD hS => ?_)
        refine W.eq (g2 := F0 m 361 ls [.int r]) rfl ?_
        refine lv_aload_n hx hb d_law_361 rfl (lv_at hl 2 rfl) ?_
        refine lv_aload_n hx hb d_law_362 rfl (lv_at hl 0 rfl) ?_
        refine lv_iload_n hx hb d_law_363 rfl (lv_at hl 3 rfl) ?_
        refine lv_iconst (v := 1) hx hb d_law_364 (by decide) ?_
        refine lv_iadd hx hb d_law_365 ?_
        rw [show nI i + 1 = nI (i + 1) from nI_add i 1]
        refine va_sld hx hb hX hbl hbA hS (vp_in_nI (show i + 1 < L by omega) (by omega)) d_law_366 ?_
        refine W_call (K' := k_M_peek) (n := 1) (own := "DetourHookerLaw") (As := [.inl (xs (nI (i + 1)).toNatClampNeg)]) (o := 16) (rest := [.int r]) (r1 := some r) cM ok_M_peek ml_law_59 pr_M_peek (Or.inr ⟨rfl, rfl⟩) rfl ⟨Nat.le_of_ble_eq_true rfl, Nat.le_of_ble_eq_true rfl⟩ ⟨Nat.le_of_ble_eq_true rfl, Nat.le_of_ble_eq_true rfl⟩ hx hb hml hown hts hK hA hP hD hS hl.1 (Nat.le_of_ble_eq_true rfl) d_law_367 (fun H locs hP hD hS => ?_)
        refine W.eq (g2 := F0 m 370 ls [.int r, .int r]) rfl ?_
        refine lv_icmp_eq (tgt := 575) hx hb d_law_370 (by decide) (fun _ => ?_) (fun q => absurd rfl q)
        exact hend σ2 μ2 hinv2 H locs hP hD hS
      · refine lv_tableIn (off := 343) (tgt := 375) hx hb d_law_32 (by decide) (by decide) (by decide) (by decide) ?_
        obtain ⟨r, σ2, μ2, cH, cM, hinv2⟩ := t11
        refine lv_aload_n hx hb d_law_375 rfl (lv_at hl 1 rfl) ?_
        refine W_call (K' := k_H_clear) (n := 0) (own := "DetourHookerLaw") (As := []) (o := 0) (rest := []) (r1 := some r) cH ok_H_clear ml_law_60 pr_H_clear (Or.inl ⟨rfl, rfl⟩) rfl ⟨Nat.le_of_ble_eq_true rfl, Nat.le_of_ble_eq_true rfl⟩ ⟨Nat.le_of_ble_eq_true rfl, Nat.le_of_ble_eq_true rfl⟩ hx hb hml hown hts hK hA hP hD hS hl.1 (Nat.le_of_ble_eq_true rfl) d_law_376 (fun H locs hP hD hS => ?_)
        refine W.eq (g2 := F0 m 379 ls [.int r]) rfl ?_
        refine lv_aload_n hx hb d_law_379 rfl (lv_at hl 2 rfl) ?_
        refine W_call (K' := k_M_clear) (n := 0) (own := "DetourHookerLaw") (As := []) (o := 16) (rest := [.int r]) (r1 := some r) cM ok_M_clear ml_law_63 pr_M_clear (Or.inr ⟨rfl, rfl⟩) rfl ⟨Nat.le_of_ble_eq_true rfl, Nat.le_of_ble_eq_true rfl⟩ ⟨Nat.le_of_ble_eq_true rfl, Nat.le_of_ble_eq_true rfl⟩ hx hb hml hown hts hK hA hP hD hS hl.1 (Nat.le_of_ble_eq_true rfl) d_law_380 (fun H locs hP hD hS => ?_)
        refine W.eq (g2 := F0 m 383 ls [.int r, .int r]) rfl ?_
        refine lv_icmp_eq (tgt := 575) hx hb d_law_383 (by decide) (fun _ => ?_) (fun q => absurd rfl q)
        exact hend σ2 μ2 hinv2 H locs hP hD hS
      · refine lv_tableIn (off := 356) (tgt := 388) hx hb d_law_32 (by decide) (by decide) (by decide) (by decide) ?_
        obtain ⟨r, σ2, μ2, cH, cM, hinv2⟩ := t12 (xs (nI (i + 1)).toNatClampNeg) (xs (nI (i + 2)).toNatClampNeg)
        refine lv_aload_n hx hb d_law_388 rfl (lv_at hl 1 rfl) ?_
        refine lv_aload_n hx hb d_law_389 rfl (lv_at hl 0 rfl) ?_
        refine lv_iload_n hx hb d_law_390 rfl (lv_at hl 3 rfl) ?_
        refine lv_iconst (v := 1) hx hb d_law_391 (by decide) ?_
        refine lv_iadd hx hb d_law_392 ?_
        rw [show nI i + 1 = nI (i + 1) from nI_add i 1]
        refine va_sld hx hb hX hbl hbA hS (vp_in_nI (show i + 1 < L by omega) (by omega)) d_law_393 ?_
        refine lv_aload_n hx hb d_law_394 rfl (lv_at hl 0 rfl) ?_
        refine lv_iload_n hx hb d_law_395 rfl (lv_at hl 3 rfl) ?_
        refine lv_iconst (v := 2) hx hb d_law_396 (by decide) ?_
        refine lv_iadd hx hb d_law_397 ?_
        rw [show nI i + 2 = nI (i + 2) from nI_add i 2]
        refine va_sld hx hb hX hbl hbA hS (vp_in_nI (show i + 2 < L by omega) (by omega)) d_law_398 ?_
        refine W_call (K' := k_H_setRegister) (n := 2) (own := "DetourHookerLaw") (As := [.inl (xs (nI (i + 1)).toNatClampNeg), .inl (xs (nI (i + 2)).toNatClampNeg)]) (o := 0) (rest := []) (r1 := some r) cH ok_H_setRegister ml_law_64 pr_H_setRegister (Or.inl ⟨rfl, rfl⟩) rfl ⟨Nat.le_of_ble_eq_true rfl, Nat.le_of_ble_eq_true rfl⟩ ⟨Nat.le_of_ble_eq_true rfl, Nat.le_of_ble_eq_true rfl⟩ hx hb hml hown hts hK hA hP hD hS hl.1 (Nat.le_of_ble_eq_true rfl) d_law_399 (fun H locs hP hD hS => ?_)
        refine W.eq (g2 := F0 m 402 ls [.int r]) rfl ?_
        refine lv_aload_n hx hb d_law_402 rfl (lv_at hl 2 rfl) ?_
        refine lv_aload_n hx hb d_law_403 rfl (lv_at hl 0 rfl) ?_
        refine lv_iload_n hx hb d_law_404 rfl (lv_at hl 3 rfl) ?_
        refine lv_iconst (v := 1) hx hb d_law_405 (by decide) ?_
        refine lv_iadd hx hb d_law_406 ?_
        rw [show nI i + 1 = nI (i + 1) from nI_add i 1]
        refine va_sld hx hb hX hbl hbA hS (vp_in_nI (show i + 1 < L by omega) (by omega)) d_law_407 ?_
        refine lv_aload_n hx hb d_law_408 rfl (lv_at hl 0 rfl) ?_
        refine lv_iload_n hx hb d_law_409 rfl (lv_at hl 3 rfl) ?_
        refine lv_iconst (v := 2) hx hb d_law_410 (by decide) ?_
        refine lv_iadd hx hb d_law_411 ?_
        rw [show nI i + 2 = nI (i + 2) from nI_add i 2]
        refine va_sld hx hb hX hbl hbA hS (vp_in_nI (show i + 2 < L by omega) (by omega)) d_law_412 ?_
        refine W_call (K' := k_M_setRegister) (n := 2) (own := "DetourHookerLaw") (As := [.inl (xs (nI (i + 1)).toNatClampNeg), .inl (xs (nI (i + 2)).toNatClampNeg)]) (o := 16) (rest := [.int r]) (r1 := some r) cM ok_M_setRegister ml_law_67 pr_M_setRegister (Or.inr ⟨rfl, rfl⟩) rfl ⟨Nat.le_of_ble_eq_true rfl, Nat.le_of_ble_eq_true rfl⟩ ⟨Nat.le_of_ble_eq_true rfl, Nat.le_of_ble_eq_true rfl⟩ hx hb hml hown hts hK hA hP hD hS hl.1 (Nat.le_of_ble_eq_true rfl) d_law_413 (fun H locs hP hD hS => ?_)
        refine W.eq (g2 := F0 m 416 ls [.int r, .int r]) rfl ?_
        refine lv_icmp_eq (tgt := 575) hx hb d_law_416 (by decide) (fun _ => ?_) (fun q => absurd rfl q)
        exact hend σ2 μ2 hinv2 H locs hP hD hS
      · refine lv_tableIn (off := 389) (tgt := 421) hx hb d_law_32 (by decide) (by decide) (by decide) (by decide) ?_
        obtain ⟨r, σ2, μ2, cH, cM, hinv2⟩ := t13 (xs (nI (i + 1)).toNatClampNeg)
        refine lv_aload_n hx hb d_law_421 rfl (lv_at hl 1 rfl) ?_
        refine lv_aload_n hx hb d_law_422 rfl (lv_at hl 0 rfl) ?_
        refine lv_iload_n hx hb d_law_423 rfl (lv_at hl 3 rfl) ?_
        refine lv_iconst (v := 1) hx hb d_law_424 (by decide) ?_
        refine lv_iadd hx hb d_law_425 ?_
        rw [show nI i + 1 = nI (i + 1) from nI_add i 1]
        refine va_sld hx hb hX hbl hbA hS (vp_in_nI (show i + 1 < L by omega) (by omega)) d_law_426 ?_
        refine W_call (K' := k_H_register) (n := 1) (own := "DetourHookerLaw") (As := [.inl (xs (nI (i + 1)).toNatClampNeg)]) (o := 0) (rest := []) (r1 := some r) cH ok_H_register ml_law_68 pr_H_register (Or.inl ⟨rfl, rfl⟩) rfl ⟨Nat.le_of_ble_eq_true rfl, Nat.le_of_ble_eq_true rfl⟩ ⟨Nat.le_of_ble_eq_true rfl, Nat.le_of_ble_eq_true rfl⟩ hx hb hml hown hts hK hA hP hD hS hl.1 (Nat.le_of_ble_eq_true rfl) d_law_427 (fun H locs hP hD hS => ?_)
        refine W.eq (g2 := F0 m 430 ls [.int r]) rfl ?_
        refine lv_aload_n hx hb d_law_430 rfl (lv_at hl 2 rfl) ?_
        refine lv_aload_n hx hb d_law_431 rfl (lv_at hl 0 rfl) ?_
        refine lv_iload_n hx hb d_law_432 rfl (lv_at hl 3 rfl) ?_
        refine lv_iconst (v := 1) hx hb d_law_433 (by decide) ?_
        refine lv_iadd hx hb d_law_434 ?_
        rw [show nI i + 1 = nI (i + 1) from nI_add i 1]
        refine va_sld hx hb hX hbl hbA hS (vp_in_nI (show i + 1 < L by omega) (by omega)) d_law_435 ?_
        refine W_call (K' := k_M_register) (n := 1) (own := "DetourHookerLaw") (As := [.inl (xs (nI (i + 1)).toNatClampNeg)]) (o := 16) (rest := [.int r]) (r1 := some r) cM ok_M_register ml_law_71 pr_M_register (Or.inr ⟨rfl, rfl⟩) rfl ⟨Nat.le_of_ble_eq_true rfl, Nat.le_of_ble_eq_true rfl⟩ ⟨Nat.le_of_ble_eq_true rfl, Nat.le_of_ble_eq_true rfl⟩ hx hb hml hown hts hK hA hP hD hS hl.1 (Nat.le_of_ble_eq_true rfl) d_law_436 (fun H locs hP hD hS => ?_)
        refine W.eq (g2 := F0 m 439 ls [.int r, .int r]) rfl ?_
        refine lv_icmp_eq (tgt := 575) hx hb d_law_439 (by decide) (fun _ => ?_) (fun q => absurd rfl q)
        exact hend σ2 μ2 hinv2 H locs hP hD hS
      · refine lv_tableIn (off := 412) (tgt := 444) hx hb d_law_32 (by decide) (by decide) (by decide) (by decide) ?_
        obtain ⟨r, σ2, μ2, cH, cM, hinv2⟩ := t14 (xs (nI (i + 1)).toNatClampNeg)
        refine lv_aload_n hx hb d_law_444 rfl (lv_at hl 1 rfl) ?_
        refine lv_aload_n hx hb d_law_445 rfl (lv_at hl 0 rfl) ?_
        refine lv_iload_n hx hb d_law_446 rfl (lv_at hl 3 rfl) ?_
        refine lv_iconst (v := 1) hx hb d_law_447 (by decide) ?_
        refine lv_iadd hx hb d_law_448 ?_
        rw [show nI i + 1 = nI (i + 1) from nI_add i 1]
        refine va_sld hx hb hX hbl hbA hS (vp_in_nI (show i + 1 < L by omega) (by omega)) d_law_449 ?_
        refine W_call (K' := k_H_hook) (n := 1) (own := "DetourHookerLaw") (As := [.inl (xs (nI (i + 1)).toNatClampNeg)]) (o := 0) (rest := []) (r1 := some r) cH ok_H_hook ml_law_72 pr_H_hook (Or.inl ⟨rfl, rfl⟩) rfl ⟨Nat.le_of_ble_eq_true rfl, Nat.le_of_ble_eq_true rfl⟩ ⟨Nat.le_of_ble_eq_true rfl, Nat.le_of_ble_eq_true rfl⟩ hx hb hml hown hts hK hA hP hD hS hl.1 (Nat.le_of_ble_eq_true rfl) d_law_450 (fun H locs hP hD hS => ?_)
        refine W.eq (g2 := F0 m 453 ls [.int r]) rfl ?_
        refine lv_aload_n hx hb d_law_453 rfl (lv_at hl 2 rfl) ?_
        refine lv_aload_n hx hb d_law_454 rfl (lv_at hl 0 rfl) ?_
        refine lv_iload_n hx hb d_law_455 rfl (lv_at hl 3 rfl) ?_
        refine lv_iconst (v := 1) hx hb d_law_456 (by decide) ?_
        refine lv_iadd hx hb d_law_457 ?_
        rw [show nI i + 1 = nI (i + 1) from nI_add i 1]
        refine va_sld hx hb hX hbl hbA hS (vp_in_nI (show i + 1 < L by omega) (by omega)) d_law_458 ?_
        refine W_call (K' := k_M_hook) (n := 1) (own := "DetourHookerLaw") (As := [.inl (xs (nI (i + 1)).toNatClampNeg)]) (o := 16) (rest := [.int r]) (r1 := some r) cM ok_M_hook ml_law_75 pr_M_hook (Or.inr ⟨rfl, rfl⟩) rfl ⟨Nat.le_of_ble_eq_true rfl, Nat.le_of_ble_eq_true rfl⟩ ⟨Nat.le_of_ble_eq_true rfl, Nat.le_of_ble_eq_true rfl⟩ hx hb hml hown hts hK hA hP hD hS hl.1 (Nat.le_of_ble_eq_true rfl) d_law_459 (fun H locs hP hD hS => ?_)
        refine W.eq (g2 := F0 m 462 ls [.int r, .int r]) rfl ?_
        refine lv_icmp_eq (tgt := 575) hx hb d_law_462 (by decide) (fun _ => ?_) (fun q => absurd rfl q)
        exact hend σ2 μ2 hinv2 H locs hP hD hS
      · refine lv_tableIn (off := 435) (tgt := 467) hx hb d_law_32 (by decide) (by decide) (by decide) (by decide) ?_
        obtain ⟨r, σ2, μ2, cH, cM, hinv2⟩ := t15 (xs (nI (i + 1)).toNatClampNeg)
        refine lv_aload_n hx hb d_law_467 rfl (lv_at hl 1 rfl) ?_
        refine lv_aload_n hx hb d_law_468 rfl (lv_at hl 0 rfl) ?_
        refine lv_iload_n hx hb d_law_469 rfl (lv_at hl 3 rfl) ?_
        refine lv_iconst (v := 1) hx hb d_law_470 (by decide) ?_
        refine lv_iadd hx hb d_law_471 ?_
        rw [show nI i + 1 = nI (i + 1) from nI_add i 1]
        refine va_sld hx hb hX hbl hbA hS (vp_in_nI (show i + 1 < L by omega) (by omega)) d_law_472 ?_
        refine W_call (K' := k_H_unhook) (n := 1) (own := "DetourHookerLaw") (As := [.inl (xs (nI (i + 1)).toNatClampNeg)]) (o := 0) (rest := []) (r1 := some r) cH ok_H_unhook ml_law_76 pr_H_unhook (Or.inl ⟨rfl, rfl⟩) rfl ⟨Nat.le_of_ble_eq_true rfl, Nat.le_of_ble_eq_true rfl⟩ ⟨Nat.le_of_ble_eq_true rfl, Nat.le_of_ble_eq_true rfl⟩ hx hb hml hown hts hK hA hP hD hS hl.1 (Nat.le_of_ble_eq_true rfl) d_law_473 (fun H locs hP hD hS => ?_)
        refine W.eq (g2 := F0 m 476 ls [.int r]) rfl ?_
        refine lv_aload_n hx hb d_law_476 rfl (lv_at hl 2 rfl) ?_
        refine lv_aload_n hx hb d_law_477 rfl (lv_at hl 0 rfl) ?_
        refine lv_iload_n hx hb d_law_478 rfl (lv_at hl 3 rfl) ?_
        refine lv_iconst (v := 1) hx hb d_law_479 (by decide) ?_
        refine lv_iadd hx hb d_law_480 ?_
        rw [show nI i + 1 = nI (i + 1) from nI_add i 1]
        refine va_sld hx hb hX hbl hbA hS (vp_in_nI (show i + 1 < L by omega) (by omega)) d_law_481 ?_
        refine W_call (K' := k_M_unhook) (n := 1) (own := "DetourHookerLaw") (As := [.inl (xs (nI (i + 1)).toNatClampNeg)]) (o := 16) (rest := [.int r]) (r1 := some r) cM ok_M_unhook ml_law_79 pr_M_unhook (Or.inr ⟨rfl, rfl⟩) rfl ⟨Nat.le_of_ble_eq_true rfl, Nat.le_of_ble_eq_true rfl⟩ ⟨Nat.le_of_ble_eq_true rfl, Nat.le_of_ble_eq_true rfl⟩ hx hb hml hown hts hK hA hP hD hS hl.1 (Nat.le_of_ble_eq_true rfl) d_law_482 (fun H locs hP hD hS => ?_)
        refine W.eq (g2 := F0 m 485 ls [.int r, .int r]) rfl ?_
        refine lv_icmp_eq (tgt := 575) hx hb d_law_485 (by decide) (fun _ => ?_) (fun q => absurd rfl q)
        exact hend σ2 μ2 hinv2 H locs hP hD hS
      · refine lv_tableIn (off := 458) (tgt := 490) hx hb d_law_32 (by decide) (by decide) (by decide) (by decide) ?_
        obtain ⟨r, σ2, μ2, cH, cM, hinv2⟩ := t16 (xs (nI (i + 1)).toNatClampNeg)
        refine lv_aload_n hx hb d_law_490 rfl (lv_at hl 1 rfl) ?_
        refine lv_aload_n hx hb d_law_491 rfl (lv_at hl 0 rfl) ?_
        refine lv_iload_n hx hb d_law_492 rfl (lv_at hl 3 rfl) ?_
        refine lv_iconst (v := 1) hx hb d_law_493 (by decide) ?_
        refine lv_iadd hx hb d_law_494 ?_
        rw [show nI i + 1 = nI (i + 1) from nI_add i 1]
        refine va_sld hx hb hX hbl hbA hS (vp_in_nI (show i + 1 < L by omega) (by omega)) d_law_495 ?_
        refine W_call (K' := k_H_calls) (n := 1) (own := "DetourHookerLaw") (As := [.inl (xs (nI (i + 1)).toNatClampNeg)]) (o := 0) (rest := []) (r1 := some r) cH ok_H_calls ml_law_80 pr_H_calls (Or.inl ⟨rfl, rfl⟩) rfl ⟨Nat.le_of_ble_eq_true rfl, Nat.le_of_ble_eq_true rfl⟩ ⟨Nat.le_of_ble_eq_true rfl, Nat.le_of_ble_eq_true rfl⟩ hx hb hml hown hts hK hA hP hD hS hl.1 (Nat.le_of_ble_eq_true rfl) d_law_496 (fun H locs hP hD hS => ?_)
        refine W.eq (g2 := F0 m 499 ls [.int r]) rfl ?_
        refine lv_aload_n hx hb d_law_499 rfl (lv_at hl 2 rfl) ?_
        refine lv_aload_n hx hb d_law_500 rfl (lv_at hl 0 rfl) ?_
        refine lv_iload_n hx hb d_law_501 rfl (lv_at hl 3 rfl) ?_
        refine lv_iconst (v := 1) hx hb d_law_502 (by decide) ?_
        refine lv_iadd hx hb d_law_503 ?_
        rw [show nI i + 1 = nI (i + 1) from nI_add i 1]
        refine va_sld hx hb hX hbl hbA hS (vp_in_nI (show i + 1 < L by omega) (by omega)) d_law_504 ?_
        refine W_call (K' := k_M_calls) (n := 1) (own := "DetourHookerLaw") (As := [.inl (xs (nI (i + 1)).toNatClampNeg)]) (o := 16) (rest := [.int r]) (r1 := some r) cM ok_M_calls ml_law_83 pr_M_calls (Or.inr ⟨rfl, rfl⟩) rfl ⟨Nat.le_of_ble_eq_true rfl, Nat.le_of_ble_eq_true rfl⟩ ⟨Nat.le_of_ble_eq_true rfl, Nat.le_of_ble_eq_true rfl⟩ hx hb hml hown hts hK hA hP hD hS hl.1 (Nat.le_of_ble_eq_true rfl) d_law_505 (fun H locs hP hD hS => ?_)
        refine W.eq (g2 := F0 m 508 ls [.int r, .int r]) rfl ?_
        refine lv_icmp_eq (tgt := 575) hx hb d_law_508 (by decide) (fun _ => ?_) (fun q => absurd rfl q)
        exact hend σ2 μ2 hinv2 H locs hP hD hS
      · refine lv_tableIn (off := 481) (tgt := 513) hx hb d_law_32 (by decide) (by decide) (by decide) (by decide) ?_
        obtain ⟨r, σ2, μ2, cH, cM, hinv2⟩ := t17
        refine lv_aload_n hx hb d_law_513 rfl (lv_at hl 1 rfl) ?_
        refine W_call (K' := k_H_hooks) (n := 0) (own := "DetourHookerLaw") (As := []) (o := 0) (rest := []) (r1 := some r) cH ok_H_hooks ml_law_84 pr_H_hooks (Or.inl ⟨rfl, rfl⟩) rfl ⟨Nat.le_of_ble_eq_true rfl, Nat.le_of_ble_eq_true rfl⟩ ⟨Nat.le_of_ble_eq_true rfl, Nat.le_of_ble_eq_true rfl⟩ hx hb hml hown hts hK hA hP hD hS hl.1 (Nat.le_of_ble_eq_true rfl) d_law_514 (fun H locs hP hD hS => ?_)
        refine W.eq (g2 := F0 m 517 ls [.int r]) rfl ?_
        refine lv_aload_n hx hb d_law_517 rfl (lv_at hl 2 rfl) ?_
        refine W_call (K' := k_M_hooks) (n := 0) (own := "DetourHookerLaw") (As := []) (o := 16) (rest := [.int r]) (r1 := some r) cM ok_M_hooks ml_law_87 pr_M_hooks (Or.inr ⟨rfl, rfl⟩) rfl ⟨Nat.le_of_ble_eq_true rfl, Nat.le_of_ble_eq_true rfl⟩ ⟨Nat.le_of_ble_eq_true rfl, Nat.le_of_ble_eq_true rfl⟩ hx hb hml hown hts hK hA hP hD hS hl.1 (Nat.le_of_ble_eq_true rfl) d_law_518 (fun H locs hP hD hS => ?_)
        refine W.eq (g2 := F0 m 521 ls [.int r, .int r]) rfl ?_
        refine lv_icmp_eq (tgt := 575) hx hb d_law_521 (by decide) (fun _ => ?_) (fun q => absurd rfl q)
        exact hend σ2 μ2 hinv2 H locs hP hD hS
      · refine lv_tableIn (off := 494) (tgt := 526) hx hb d_law_32 (by decide) (by decide) (by decide) (by decide) ?_
        obtain ⟨r, σ2, μ2, cH, cM, hinv2⟩ := t18 (xs (nI (i + 1)).toNatClampNeg)
        refine lv_aload_n hx hb d_law_526 rfl (lv_at hl 1 rfl) ?_
        refine lv_aload_n hx hb d_law_527 rfl (lv_at hl 0 rfl) ?_
        refine lv_iload_n hx hb d_law_528 rfl (lv_at hl 3 rfl) ?_
        refine lv_iconst (v := 1) hx hb d_law_529 (by decide) ?_
        refine lv_iadd hx hb d_law_530 ?_
        rw [show nI i + 1 = nI (i + 1) from nI_add i 1]
        refine va_sld hx hb hX hbl hbA hS (vp_in_nI (show i + 1 < L by omega) (by omega)) d_law_531 ?_
        refine W_call (K' := k_H_run) (n := 1) (own := "DetourHookerLaw") (As := [.inl (xs (nI (i + 1)).toNatClampNeg)]) (o := 0) (rest := []) (r1 := some r) cH ok_H_run ml_law_88 pr_H_run (Or.inl ⟨rfl, rfl⟩) rfl ⟨Nat.le_of_ble_eq_true rfl, Nat.le_of_ble_eq_true rfl⟩ ⟨Nat.le_of_ble_eq_true rfl, Nat.le_of_ble_eq_true rfl⟩ hx hb hml hown hts hK hA hP hD hS hl.1 (Nat.le_of_ble_eq_true rfl) d_law_532 (fun H locs hP hD hS => ?_)
        refine W.eq (g2 := F0 m 535 ls [.int r]) rfl ?_
        refine lv_aload_n hx hb d_law_535 rfl (lv_at hl 2 rfl) ?_
        refine lv_aload_n hx hb d_law_536 rfl (lv_at hl 0 rfl) ?_
        refine lv_iload_n hx hb d_law_537 rfl (lv_at hl 3 rfl) ?_
        refine lv_iconst (v := 1) hx hb d_law_538 (by decide) ?_
        refine lv_iadd hx hb d_law_539 ?_
        rw [show nI i + 1 = nI (i + 1) from nI_add i 1]
        refine va_sld hx hb hX hbl hbA hS (vp_in_nI (show i + 1 < L by omega) (by omega)) d_law_540 ?_
        refine W_call (K' := k_M_run) (n := 1) (own := "DetourHookerLaw") (As := [.inl (xs (nI (i + 1)).toNatClampNeg)]) (o := 16) (rest := [.int r]) (r1 := some r) cM ok_M_run ml_law_91 pr_M_run (Or.inr ⟨rfl, rfl⟩) rfl ⟨Nat.le_of_ble_eq_true rfl, Nat.le_of_ble_eq_true rfl⟩ ⟨Nat.le_of_ble_eq_true rfl, Nat.le_of_ble_eq_true rfl⟩ hx hb hml hown hts hK hA hP hD hS hl.1 (Nat.le_of_ble_eq_true rfl) d_law_541 (fun H locs hP hD hS => ?_)
        refine W.eq (g2 := F0 m 544 ls [.int r, .int r]) rfl ?_
        refine lv_icmp_eq (tgt := 575) hx hb d_law_544 (by decide) (fun _ => ?_) (fun q => absurd rfl q)
        exact hend σ2 μ2 hinv2 H locs hP hD hS
      · refine lv_tableIn (off := 517) (tgt := 549) hx hb d_law_32 (by decide) (by decide) (by decide) (by decide) ?_
        obtain ⟨r, σ2, μ2, cH, cM, hinv2⟩ := t19
        refine lv_aload_n hx hb d_law_549 rfl (lv_at hl 1 rfl) ?_
        refine W_call (K' := k_H_ending) (n := 0) (own := "DetourHookerLaw") (As := []) (o := 0) (rest := []) (r1 := some r) cH ok_H_ending ml_law_92 pr_H_ending (Or.inl ⟨rfl, rfl⟩) rfl ⟨Nat.le_of_ble_eq_true rfl, Nat.le_of_ble_eq_true rfl⟩ ⟨Nat.le_of_ble_eq_true rfl, Nat.le_of_ble_eq_true rfl⟩ hx hb hml hown hts hK hA hP hD hS hl.1 (Nat.le_of_ble_eq_true rfl) d_law_550 (fun H locs hP hD hS => ?_)
        refine W.eq (g2 := F0 m 553 ls [.int r]) rfl ?_
        refine lv_aload_n hx hb d_law_553 rfl (lv_at hl 2 rfl) ?_
        refine W_call (K' := k_M_ending) (n := 0) (own := "DetourHookerLaw") (As := []) (o := 16) (rest := [.int r]) (r1 := some r) cM ok_M_ending ml_law_95 pr_M_ending (Or.inr ⟨rfl, rfl⟩) rfl ⟨Nat.le_of_ble_eq_true rfl, Nat.le_of_ble_eq_true rfl⟩ ⟨Nat.le_of_ble_eq_true rfl, Nat.le_of_ble_eq_true rfl⟩ hx hb hml hown hts hK hA hP hD hS hl.1 (Nat.le_of_ble_eq_true rfl) d_law_554 (fun H locs hP hD hS => ?_)
        refine W.eq (g2 := F0 m 557 ls [.int r, .int r]) rfl ?_
        refine lv_icmp_eq (tgt := 575) hx hb d_law_557 (by decide) (fun _ => ?_) (fun q => absurd rfl q)
        exact hend σ2 μ2 hinv2 H locs hP hD hS
      · refine lv_tableIn (off := 530) (tgt := 562) hx hb d_law_32 (by decide) (by decide) (by decide) (by decide) ?_
        obtain ⟨r, σ2, μ2, cH, cM, hinv2⟩ := t20
        refine lv_aload_n hx hb d_law_562 rfl (lv_at hl 1 rfl) ?_
        refine W_call (K' := k_H_executed) (n := 0) (own := "DetourHookerLaw") (As := []) (o := 0) (rest := []) (r1 := some r) cH ok_H_executed ml_law_96 pr_H_executed (Or.inl ⟨rfl, rfl⟩) rfl ⟨Nat.le_of_ble_eq_true rfl, Nat.le_of_ble_eq_true rfl⟩ ⟨Nat.le_of_ble_eq_true rfl, Nat.le_of_ble_eq_true rfl⟩ hx hb hml hown hts hK hA hP hD hS hl.1 (Nat.le_of_ble_eq_true rfl) d_law_563 (fun H locs hP hD hS => ?_)
        refine W.eq (g2 := F0 m 566 ls [.int r]) rfl ?_
        refine lv_aload_n hx hb d_law_566 rfl (lv_at hl 2 rfl) ?_
        refine W_call (K' := k_M_executed) (n := 0) (own := "DetourHookerLaw") (As := []) (o := 16) (rest := [.int r]) (r1 := some r) cM ok_M_executed ml_law_99 pr_M_executed (Or.inr ⟨rfl, rfl⟩) rfl ⟨Nat.le_of_ble_eq_true rfl, Nat.le_of_ble_eq_true rfl⟩ ⟨Nat.le_of_ble_eq_true rfl, Nat.le_of_ble_eq_true rfl⟩ hx hb hml hown hts hK hA hP hD hS hl.1 (Nat.le_of_ble_eq_true rfl) d_law_567 (fun H locs hP hD hS => ?_)
        refine W.eq (g2 := F0 m 570 ls [.int r, .int r]) rfl ?_
        refine lv_icmp_eq (tgt := 575) hx hb d_law_570 (by decide) (fun _ => ?_) (fun q => absurd rfl q)
        exact hend σ2 μ2 hinv2 H locs hP hD hS
      · refine lv_tableOut (tgt := 575) hx hb d_law_32 (Or.inr (by rw [nI_toInt (by omega)]; omega)) (by decide) ?_
        exact hend σ μ hinv H locs hP hD hS
set_option maxHeartbeats 4000000 in
set_option maxRecDepth 100000 in
/-- THE LAW, from its entry -/
theorem law_start {Inv : SG → SG → Prop} (hI : dh_All Inv) (hI0 : Inv s0H s0M) {p : Program} {e : Env} {s : State} {m : MethodId} {below : List Frame} {meth : Method} {c : Code} (l : Launch) {b L : Nat} {xs : Nat → Int32} (hL : L ≤ 1536) (C0 : lw_At p s m meth c b L xs) : W p l e room_1 s m #[Value.ref b] below meth c s.heap [] 0 0 (lw_Z below #[Value.ref b] s) (entryFrame m ([Value.ref b] : List Value).toArray 4) := by
  obtain ⟨hx, hb, hr, hml, hown, hts0, hX, hbl, hlocks, hgv⟩ := id C0
  have hts : ∀ w ∈ tb, w.before #[Value.ref b] s = true := fun w hw => hts0 w (List.mem_filter.mp hw).1
  have hA : ∀ q : Nat, s.heap.size ≤ q → (fun q : Nat => s.heap.size ≤ q) q := fun _ h => h
  have hbA : ¬ (fun q : Nat => s.heap.size ≤ q) b := Nat.not_le.mpr hbl
  obtain ⟨c0, iS0, hKn0⟩ := u_known (C := R_H) (T := F_H) (N := 16) (n := 16) hts i_H (hts (.instantiable R_H 16) (by decide +kernel))
  obtain ⟨c1, iS1, hKn1⟩ := u_known (C := R_M) (T := F_M) (N := 11) (n := 11) hts i_M (hts (.instantiable R_M 11) (by decide +kernel))
  obtain ⟨dC, dI, hKc⟩ : ∃ (dC : Nat → ClassId) (dI : Nat → Nat → Nat), ∀ (k : Nat) (q : vw_C), classes[k]? = some q → u_Kn s q.1 q.2.1 q.2.2 (dC k) (dI k) := by
    refine ⟨fun k => if k = 0 then c0 else c1, fun k => if k = 0 then iS0 else iS1, ?_⟩
    intro k q hq
    match k, hq with
    | 0, hq => cases hq; exact hKn0
    | 1, hq => cases hq; exact hKn1
    | k + 2, hq => simp [classes] at hq
  have hS : va_S (fun q : Nat => s.heap.size ≤ q) s.heap s.heap [] := va_S.rf
  have hK : va_K (dC, dI) classes [] s := ⟨hKc, fun k q h => by simp at h⟩
  have hP : va_P (dC, dI) classes [] s.heap := fun k q h => by simp at h
  have hD : va_D (fun q : Nat => s.heap.size ≤ q) [] := ⟨fun i j p q h => by simp at h, fun k q h => by simp at h⟩
  have hl := lv_entry ([.ref b]) (n := 4) (Nat.le_of_ble_eq_true rfl)
  rw [lg_entry_eq]
  generalize (lg_sl ([.ref b]) ++ List.replicate (4 - (lg_sl ([.ref b])).length) Slot.unset).toArray = ls at hl ⊢
  have hl : lv_has ls 4 [(0, .ref b)] := hl
  refine va_new (ci := 0) (fs := o_H) (C := R_H) (T := F_H) (N := 16) hx hb hts i_H t_H t_H_ok hown (hts (.classLink R_law 7 R_H) (by decide +kernel)) (hts (.instantiable R_H 16) (by decide +kernel)) (hts (.initialized R_H) (by decide +kernel)) hK hP hD hS hA rfl (fun j hj => by rcases (show j = 0 ∨ j = 1 ∨ j = 2 ∨ j = 3 ∨ j = 4 ∨ j = 5 ∨ j = 6 ∨ j = 7 ∨ j = 8 ∨ j = 9 ∨ j = 10 ∨ j = 11 ∨ j = 12 ∨ j = 13 ∨ j = 14 ∨ j = 15 by omega) with rfl | rfl | rfl | rfl | rfl | rfl | rfl | rfl | rfl | rfl | rfl | rfl | rfl | rfl | rfl | rfl <;> rfl) (Nat.le_of_ble_eq_true rfl) (Nat.le_of_ble_eq_true rfl) d_law_0 (fun q0v H hP hD hS => ?_)
  have hP : va_P (dC, dI) classes [(q0v, .inr (0, o_H))] H := hP
  have hD : va_D (fun q : Nat => s.heap.size ≤ q) [(q0v, .inr (0, o_H))] := hD
  refine W.widen (k := 1) (n := 16) (by omega) (by omega) ?_
  refine lv_dup hx hb d_law_3 rfl ?_
  have hFc := va_free (wc := [(q0v, .inr (0, o_H))]) hD hS hA [0] rfl
  refine va_callv (va_runI (As := []) (rest := [.ref q0v]) ⟨hx, hb, hml, hown, hts⟩ (c_H_init l dC dI q0v H.size) (cwI 0 hts (good_tb (tb_of (List.mem_of_getElem? (i := 45) (by decide +kernel)) rfl)) rfl rfl rfl (hts (.initialized R_H) (by decide +kernel)) (hts (.methodLink R_law 9 y_H_init) (by decide +kernel)) (hts (.instanceMethod y_H_init) (by decide +kernel)) rfl (by decide +kernel) ⟨Nat.le_of_ble_eq_true rfl, Nat.le_of_ble_eq_true rfl⟩) ⟨fun a U g mk q => by obtain ⟨q0, q1, qP, qK, qD⟩ := q; exact ⟨q0, q1, qP, va_K.moved (u := U) (U := U.calling g mk a) (Vm.Alike.refl U.vm) qK, qD⟩, fun U hU hW => ⟨rfl, by rw [hU], by rw [hU]; exact hP, va_K.moved hW.alike hK, hD.weaken (fun _ _ _ _ => trivial)⟩⟩ rfl rfl hl.1 rfl (lv_room (Nat.le_of_ble_eq_true rfl)) d_law_4 ⟨Nat.le_of_ble_eq_true rfl, Nat.le_of_ble_eq_true rfl⟩) hS (fun q _ h => hFc q h) hFc (fun u t H1 locs ht hvm hw hB hz1 hk1 hS => ?_)
  obtain ⟨ad1, cI, cZ⟩ := u
  obtain ⟨e0, hP1, hK1, hD1⟩ := hB
  rw [ht] at hP1
  have hK1 := va_K.moved hvm.symm hK1
  obtain ⟨hP, hD⟩ := va_join (wr := []) (w1 := wdH ad1 cI cZ s0H) hP hD [0] [] rfl rfl (by decide) (by decide) hk1 hFc hP1 hD1
  generalize H1 = H at hP hS ⊢
  have hP : va_P (dC, dI) classes (wdH ad1 cI cZ s0H) H := hP
  have hD : va_D (fun q : Nat => s.heap.size ≤ q) (wdH ad1 cI cZ s0H) := hD
  have hK : va_K (dC, dI) classes (tys2 cI cZ) s := hK1
  refine W.widen (k := 11) (n := 360) (by omega) (by omega) ?_
  refine lv_astore_n (lv' := [(1, .ref q0v), (0, .ref b)]) hx hb d_law_7 rfl hl (by decide) rfl (fun ls hl => ?_)
  refine va_new (ci := 1) (fs := o_M) (C := R_M) (T := F_M) (N := 11) hx hb hts i_M t_M t_M_ok hown (hts (.classLink R_law 10 R_M) (by decide +kernel)) (hts (.instantiable R_M 11) (by decide +kernel)) (hts (.initialized R_M) (by decide +kernel)) hK hP hD hS hA rfl (fun j hj => by rcases (show j = 0 ∨ j = 1 ∨ j = 2 ∨ j = 3 ∨ j = 4 ∨ j = 5 ∨ j = 6 ∨ j = 7 ∨ j = 8 ∨ j = 9 ∨ j = 10 by omega) with rfl | rfl | rfl | rfl | rfl | rfl | rfl | rfl | rfl | rfl | rfl <;> rfl) (Nat.le_of_ble_eq_true rfl) (Nat.le_of_ble_eq_true rfl) d_law_8 (fun q1v H hP hD hS => ?_)
  refine W.widen (k := 12) (n := 371) (by omega) (by omega) ?_
  refine lv_dup hx hb d_law_11 rfl ?_
  have hPc := hP.sub (ws' := [(q1v, .inr (1, o_M))]) [11] rfl
  have hDc := hD.sub (ws' := [(q1v, .inr (1, o_M))]) [11] (by decide) rfl
  have hKc := hK.sub (tys' := []) [] rfl
  have hFc := va_free (wc := [(q1v, .inr (1, o_M))]) hD hS hA [11] rfl
  refine va_callv (va_runI (As := []) (rest := [.ref q1v]) ⟨hx, hb, hml, hown, hts⟩ (c_M_init l dC dI q1v H.size) (cwI 0 hts (good_tb (tb_of (List.mem_of_getElem? (i := 297) (by decide +kernel)) rfl)) rfl rfl rfl (hts (.initialized R_M) (by decide +kernel)) (hts (.methodLink R_law 12 y_M_init) (by decide +kernel)) (hts (.instanceMethod y_M_init) (by decide +kernel)) rfl (by decide +kernel) ⟨Nat.le_of_ble_eq_true rfl, Nat.le_of_ble_eq_true rfl⟩) ⟨fun a U g mk q => by obtain ⟨q0, q1, qP, qK, qD⟩ := q; exact ⟨q0, q1, qP, va_K.moved (u := U) (U := U.calling g mk a) (Vm.Alike.refl U.vm) qK, qD⟩, fun U hU hW => ⟨rfl, by rw [hU], by rw [hU]; exact hPc, va_K.moved hW.alike hKc, hDc.weaken (fun _ _ _ _ => trivial)⟩⟩ rfl rfl hl.1 rfl (lv_room (Nat.le_of_ble_eq_true rfl)) d_law_12 ⟨Nat.le_of_ble_eq_true rfl, Nat.le_of_ble_eq_true rfl⟩) hS (fun q _ h => hFc q h) hFc (fun u t H1 locs ht hvm hw hB hz1 hk1 hS => ?_)
  obtain ⟨ad2, cI2, cZ2⟩ := u
  obtain ⟨e1, hP1, hK1, hD1⟩ := hB
  rw [ht] at hP1
  have hK1 := va_K.moved hvm.symm hK1
  dsimp only at hP1 hK1 hD1 e0 e1
  obtain ⟨hP, hD⟩ := va_join (wr := wdH ad1 cI cZ s0H) (w1 := wdM ad2 cI2 cZ2 s0M) hP hD [11] [0, 1, 2, 3, 4, 5, 6, 7, 8, 9, 10] rfl rfl (by decide) (by decide) hk1 hFc hP1 hD1
  have eI : cI = cI2 := Option.some.inj ((va_nm_int (hK.2 0 _ rfl).2).symm.trans (va_nm_int (hK1.2 0 _ rfl).2))
  have eZ : cZ = cZ2 := Option.some.inj ((va_nm_boolean (hK.2 1 _ rfl).2).symm.trans (va_nm_boolean (hK1.2 1 _ rfl).2))
  subst eI
  subst eZ
  generalize H1 = H at hP hS ⊢
  obtain ⟨ad, had⟩ : ∃ ad : Nat → Nat, ad = fun c => if c < 16 then ad1 c else ad2 c := ⟨_, rfl⟩
  have hP : va_P (dC, dI) classes (wd ad cI cZ (s0H, s0M)) H := by rw [had]; exact hP
  have hD : va_D (fun q : Nat => s.heap.size ≤ q) (wd ad cI cZ (s0H, s0M)) := by rw [had]; exact hD
  have ea : q0v = ad 0 := by rw [had]; exact e0.symm
  have eb : q1v = ad 16 := by rw [had]; exact e1.symm
  refine W.widen (k := 18) (n := 639) (by omega) (by omega) ?_
  refine lv_astore_n (lv' := [(2, .ref q1v), (1, .ref q0v), (0, .ref b)]) hx hb d_law_15 rfl hl (by decide) rfl (fun ls hl => ?_)
  refine lv_iconst (v := 0) hx hb d_law_16 (by decide) ?_
  refine lv_istore_n (lv' := [(3, .int 0), (2, .ref q1v), (1, .ref q0v), (0, .ref b)]) hx hb d_law_17 rfl hl (by decide) rfl (fun ls hl => ?_)
  rw [ea, eb] at hl
  exact law_loop hI hL C0 hK (L + 1) 0 (Nat.zero_le L) (by omega) s0H s0M hI0 _ _ hP hD hS ls (lv_sub hl [3, 2, 1, 0] rfl)
end
section
/-! ===== the pure side: what ties the two objects together ===== -/
def cM (f : Nat → Int32) : Nat → Int32
  | 0 => 0
  | n + 1 => if f n = 0 then cM f n else cM f n + 1
def cH (f : Nat → Int32) : Nat → Int32
  | 0 => 0
  | n + 1 => if f n < 0 then cH f n else cH f n + 1
theorem cntM_eq (μ : SG) (n : Nat) : cntM μ n = cM (μ 21) n := by
  induction n with
  | zero => rfl
  | succ n ih => show (if _ then _ else _) = (if _ then _ else _); rw [ih]
theorem cntH_eq (σ : SG) (n : Nat) : cntH σ n = cH (σ 7) n := by
  induction n with
  | zero => rfl
  | succ n ih => show (if _ then _ else _) = (if _ then _ else _); rw [ih]
def hx_adr (Ar : Nat → Int32) (w : Nat) : Int32 := Ar w * 256 + Ar (w + 1) - 256
/-- the second area at w holds the moved instruction of x -/
def hx_Rel (P Ar : Nat → Int32) (w x : Nat) : Prop :=
  (P x = 4 → Ar w = 14 ∧ hx_adr Ar (w + 1) = tgI P x) ∧
  (P x = 5 → Ar w = 11 ∧ Ar (w + 1) = P (x + 1) ∧ hx_adr Ar (w + 2) = tgI P x) ∧
  (P x = 6 → Ar w = 12 ∧ hx_adr Ar (w + 1) = tgI P x) ∧
  (P x = 8 → Ar w = 13 ∧ Ar (w + 1) = P (x + 1) ∧ hx_adr Ar (w + 2) = nI (x + 2)) ∧
  (¬ P x = 4 → ¬ P x = 5 → ¬ P x = 6 → ¬ P x = 8 → Ar w = P x ∧ (¬ P x ≤ 0 → ¬ 4 ≤ P x → Ar (w + 1) = P (x + 1)))
/-- a hook's picture: m instructions at X 0 .. are moved to W 0 .., then the way back -/
def hx_HD (P C S M Ar : Nat → Int32) (N h a m : Nat) (X W : Nat → Nat) : Prop :=
  (1 ≤ m ∧ X 0 = a ∧ W 0 = 16 * h + 2 ∧ X m = a + hl P a ∧ W m + 3 ≤ 16 * h + 16) ∧
  (∀ i, i < m → (X i < N ∧ ¬ S (X i) = 0) ∧ (X (i + 1) = X i + ln (P (X i)) ∧ W (i + 1) = W i + dl (P (X i))) ∧ hx_Rel P Ar (W i) (X i) ∧ (0 < i → M (X i) = nI (512 + W i))) ∧
  (Ar (W m) = 9 ∧ hx_adr Ar (W m + 1) = nI (X m)) ∧ (Ar (16 * h) = 10 ∧ Ar (16 * h + 1) = nI h) ∧ C a = 9 ∧ C (a + 1) = 3 ∧ C (a + 2) = nI (16 * h)
/-- what holds of a hook h at a -/
def hx_At (P C S M Ar HL : Nat → Int32) (N h a : Nat) : Prop :=
  (a + 3 ≤ N ∧ ¬ S a = 0 ∧ HL h = nI (hl P a)) ∧ (∀ x, x < N → ¬ S x = 0 → tgI P x ≤ nI a ∨ nI (a + hl P a) ≤ tgI P x) ∧ ∃ m X W, hx_HD P C S M Ar N h a m X W
def hx_Hk (P C S M Ar HA HL : Nat → Int32) (N : Nat) : Prop :=
  (∀ h, h < 4 → HA h = -1 ∨ ∃ a, HA h = nI a ∧ hx_At P C S M Ar HL N h a) ∧
  (∀ h g a b, h < 4 → g < 4 → h ≠ g → HA h = nI a → HA g = nI b → a < 64 → b < 64 → a + hl P a ≤ b ∨ b + hl P b ≤ a) ∧
  (∀ i, i < 64 → (∀ h a, h < 4 → a < 64 → HA h = nI a → ¬ (a ≤ i ∧ i < a + hl P a)) → C i = P i)
def hx_Ops (P S : Nat → Int32) (N : Nat) : Prop := ∀ x, x < N → ¬ S x = 0 → (¬ P x < 0 ∧ P x ≤ 8) ∧ (P x = 3 → ¬ P (x + 1) < 0 ∧ P (x + 1) ≤ 15) ∧ (P x = 4 ∨ P x = 6 → ¬ P (x + 1) < 0 ∧ P (x + 1) ≤ 255) ∧ (P x = 5 → (¬ P (x + 1) < 0 ∧ P (x + 1) ≤ 3) ∧ ¬ P (x + 2) < 0 ∧ P (x + 2) ≤ 255)
def hx_Prog (P S : Nat → Int32) (N : Nat) : Prop := Chn P S N ∧ Gap P S N ∧ hx_Ops P S N
def hx_Lnk (HA Cn hk cn : Nat → Int32) : Prop := (∀ a, a < 64 → (hk a = 0 ↔ ∀ h, h < 4 → ¬ HA h = nI a)) ∧ (∀ h a, h < 4 → a < 64 → HA h = nI a → Cn h = cn a) ∧ cM hk 64 = cH HA 4
def hx_InvN (N : Nat) (σ μ : SG) : Prop :=
  (N ≤ 64 ∧ σ 0 0 = nI N ∧ μ 16 2 = nI N) ∧ (μ 17 = σ 1 ∧ μ 18 = σ 3) ∧ hx_Prog (σ 1) (σ 3) N ∧ hx_Hk (σ 1) (σ 2) (σ 3) (σ 4) (σ 5) (σ 7) (σ 8) N ∧ hx_Lnk (σ 7) (σ 9) (μ 21) (μ 22) ∧ μ 20 = σ 10 ∧ μ 16 9 = σ 0 15 ∧ μ 16 10 = σ 0 14
def hx_Inv (σ μ : SG) : Prop := ∃ N, hx_InvN N σ μ
/-! numbers -/
theorem nI_m1 {a : Nat} (ha : a < 2 ^ 31) : ¬ nI a = -1 := fun h => nI_pos ha (by rw [h]; decide)
theorem a512 (w : Nat) : (512 : Int32) + nI w = nI (512 + w) := nI_add 512 w
theorem fetch_C {σ : SG} {x : Nat} (hx : x < 64) : f_fetch σ (nI x) = σ 2 x := by
  unfold f_fetch
  rw [if_pos (show nI x < 512 from nI_lt (b := 512) (by omega) (by decide)), if_neg (nI_pos (by omega)), if_neg (show ¬ 64 ≤ nI x from nI_ge (b := 64) hx (by decide)), nI_clamp (by omega)]
theorem fetch_A {σ : SG} {w : Nat} (hw : w < 64) : f_fetch σ (nI (512 + w)) = σ 5 w := by
  unfold f_fetch
  have e : nI (512 + w) - 512 = nI w := (pk_sub (a := 512 + w) (b := 512) (by omega)).trans (congrArg nI (by omega))
  rw [if_neg (show ¬ nI (512 + w) < 512 from nI_nlt (b := 512) (by omega) (by omega)), e, if_neg (show ¬ 64 ≤ nI w from nI_ge (b := 64) hw (by decide)), nI_clamp (by omega)]
theorem fa_A {σ : SG} {w : Nat} (hw : w + 1 < 64) : f_fa σ (nI (512 + w)) = hx_adr (σ 5) w := by
  unfold f_fa hx_adr
  rw [nI_1, fetch_A (by omega), show 512 + w + 1 = 512 + (w + 1) by omega, fetch_A hw]
theorem adr_id (x : Int32) : ((x + 256) >>> ((8 : Int32) &&& 31)) * 256 + ((x + 256) &&& 255) - 256 = x := by
  generalize hy : x + 256 = y
  have e : y >>> ((8 : Int32) &&& 31) * 256 + (y &&& 255) = y := by
    have h1 : (y >>> ((8 : Int32) &&& 31)).toInt = y.toInt >>> 8 := pk_shr y _ 8 (by decide)
    have h2 : y &&& 255 = nI (y.toBitVec.toNat % 2 ^ 8) := pk_and y 8 (by decide)
    have h3 : (y &&& 255).toInt = ((y.toBitVec.toNat % 2 ^ 8 : Nat) : Int) := by rw [h2, nI_toInt (by omega)]
    have h4 : y.toInt = y.toBitVec.toInt := rfl
    have h5 := BitVec.toInt_eq_toNat_cond y.toBitVec
    have h6 := y.toBitVec.isLt
    apply Int32.toInt_inj.mp
    rw [Int32.toInt_add, Int32.toInt_mul, h1, h3, Int.shiftRight_eq_div_pow]
    have h7 : (256 : Int32).toInt = 256 := rfl
    rw [h7]
    have h8 : y.toInt / ((2 ^ 8 : Nat) : Int) * 256 + ((y.toBitVec.toNat % 2 ^ 8 : Nat) : Int) = y.toInt := by
      rw [h4, h5]
      split <;> omega
    have h9 := Int32.toInt_lt y
    have h10 := Int32.le_toInt y
    have h11 : (y.toInt / ((2 ^ 8 : Nat) : Int) * 256).bmod (2 ^ 32) = y.toInt / ((2 ^ 8 : Nat) : Int) * 256 := Int.bmod_eq_of_le (by omega) (by omega)
    rw [h11, h8]
    exact Int.bmod_eq_of_le (by omega) (by omega)
  rw [e, ← hy]
  grind
end
section
/-! ===== the simple methods: both answer alike, the invariant stays ===== -/
theorem upd_s (f : Nat → Int32) (k : Nat) (v : Int32) : upd f k v k = v := pk_us
theorem upd_n (f : Nat → Int32) {k j : Nat} (v : Int32) (h : j ≠ k) : upd f k v j = f j := pk_un h
theorem upd_u (f : Nat → Int32) (k : Nat) (v w : Int32) : upd (upd f k v) k w = upd f k w := by
  funext j
  by_cases h : j = k
  · subst h; rw [upd_s, upd_s]
  · rw [upd_n _ _ h, upd_n _ _ h, upd_n _ _ h]
theorem cH_spec (f : Nat → Int32) (n : Nat) (hn : n ≤ 1000) : ∃ k, k ≤ n ∧ cH f n = nI k ∧ (k = 0 ↔ ∀ h, h < n → f h < 0) ∧ (k = n ↔ ∀ h, h < n → ¬ f h < 0) := by
  induction n with
  | zero => exact ⟨0, Nat.le_refl 0, rfl, ⟨fun _ h hh => absurd hh (Nat.not_lt_zero h), fun _ => rfl⟩, ⟨fun _ h hh => absurd hh (Nat.not_lt_zero h), fun _ => rfl⟩⟩
  | succ n ih =>
    obtain ⟨k, h1, h2, h3, h4⟩ := ih (by omega)
    by_cases c : f n < 0
    · refine ⟨k, by omega, by show (if _ then _ else _) = _; rw [if_pos c]; exact h2, ⟨fun q h hh => ?_, fun q => h3.mpr (fun h hh => q h (by omega))⟩, ⟨fun q => by omega, fun q => absurd c (q n (by omega))⟩⟩
      rcases Nat.lt_succ_iff_lt_or_eq.mp hh with z | z
      · exact h3.mp q h z
      · rw [z]; exact c
    · refine ⟨k + 1, by omega, by show (if _ then _ else _) = _; rw [if_neg c, h2, nI_1], ⟨fun q => by omega, fun q => absurd (q n (by omega)) c⟩, ⟨fun q h hh => ?_, fun q => by rw [h4.mpr (fun h hh => q h (by omega))]⟩⟩
      rcases Nat.lt_succ_iff_lt_or_eq.mp hh with z | z
      · exact h4.mp (by omega) h z
      · rw [z]; exact c
theorem Hk_m1 {P C S M Ar HA HL : Nat → Int32} {N h : Nat} (hN : N ≤ 64) (H : hx_Hk P C S M Ar HA HL N) (hh : h < 4) (hn : HA h < 0) : HA h = -1 := by
  rcases H.1 h hh with q | ⟨a, e, q⟩
  · exact q
  · exact absurd (e ▸ hn) (nI_pos (by have := q.1.1; omega))
theorem inv_cnt {N : Nat} {σ μ : SG} (h : hx_InvN N σ μ) : cntM μ 64 = cntH σ 4 := by rw [cntM_eq, cntH_eq]; exact h.2.2.2.2.1.2.2
theorem inv_none {N : Nat} {σ μ : SG} (h : hx_InvN N σ μ) (hc : cntH σ 4 ≤ 0) : ∀ g, g < 4 → σ 7 g = -1 := by
  rw [cntH_eq] at hc
  obtain ⟨k, h1, h2, h3, -⟩ := cH_spec (σ 7) 4 (by decide)
  rw [h2] at hc
  have hk : k = 0 := by have := (nI_leI (b := 0) (by omega) (by decide)).mp hc; omega
  exact fun g hg => Hk_m1 h.1.1 h.2.2.2.1 hg (h3.mp hk g hg)
theorem Hk_none {P C S M Ar HA HL : Nat → Int32} {N : Nat} (h : ∀ g, g < 4 → HA g = -1) (hC : ∀ i, i < 64 → C i = P i) : hx_Hk P C S M Ar HA HL N :=
  ⟨fun g hg => Or.inl (h g hg), fun g _ a _ hg _ _ ea _ ha _ => absurd (ea.symm.trans (h g hg)) (nI_m1 (by omega)), fun i hi _ => hC i hi⟩
theorem inv_C {N : Nat} {σ μ : SG} (h : hx_InvN N σ μ) (hn : ∀ g, g < 4 → σ 7 g = -1) : ∀ i, i < 64 → σ 2 i = σ 1 i :=
  fun i hi => h.2.2.2.1.2.2 i hi (fun g a hg ha e => absurd (e.symm.trans (hn g hg)) (nI_m1 (by omega)))
theorem ln_of {k : Int32} : (k = 3 → ln k = 2) ∧ (k = 4 ∨ k = 6 → ln k = 2) ∧ (k = 5 → ln k = 3) := ⟨fun h => by rw [h]; rfl, fun h => by rcases h with h | h <;> (rw [h]; rfl), fun h => by rw [h]; rfl⟩
theorem Prog_app {P S P2 S2 : Nat → Int32} {N s : Nat} (h : hx_Prog P S N) (hs : s = ln (P2 N)) (hP : ∀ i, i < N → P2 i = P i) (hS : ∀ i, i < N → S2 i = S i) (h1 : ¬ S2 N = 0) (h2 : ∀ j, 0 < j → j < s → S2 (N + j) = 0)
    (hop : (¬ P2 N < 0 ∧ P2 N ≤ 8) ∧ (P2 N = 3 → ¬ P2 (N + 1) < 0 ∧ P2 (N + 1) ≤ 15) ∧ (P2 N = 4 ∨ P2 N = 6 → ¬ P2 (N + 1) < 0 ∧ P2 (N + 1) ≤ 255) ∧ (P2 N = 5 → (¬ P2 (N + 1) < 0 ∧ P2 (N + 1) ≤ 3) ∧ ¬ P2 (N + 2) < 0 ∧ P2 (N + 2) ≤ 255)) : hx_Prog P2 S2 (N + s) := by
  obtain ⟨hC, hG, hO⟩ := h
  have hl := ln_in (P2 N)
  have lt_or : ∀ x, x < N + s → ¬ S2 x = 0 → x < N ∨ x = N := by
    intro x hx hx2
    rcases Nat.lt_or_ge x N with q | q
    · exact Or.inl q
    · rcases Nat.lt_or_ge N x with q2 | q2
      · exact absurd (by rw [show x = N + (x - N) by omega]; exact h2 (x - N) (by omega) (by omega)) hx2
      · exact Or.inr (by omega)
  refine ⟨fun x hx hx2 => ?_, fun x hx hx2 j hj hj2 => ?_, fun x hx hx2 => ?_⟩
  · rcases lt_or x hx hx2 with q | q
    · have g := hC x q (by rw [← hS x q]; exact hx2)
      rw [hP x q]
      refine ⟨by omega, fun _ => ?_⟩
      rcases Nat.lt_or_ge (x + ln (P x)) N with z | z
      · rw [hS _ z]; exact g.2 z
      · rw [show x + ln (P x) = N by omega]; exact h1
    · subst q
      rw [← hs]
      exact ⟨Nat.le_refl _, fun z => absurd z (Nat.lt_irrefl _)⟩
  · rcases lt_or x hx hx2 with q | q
    · have hx3 : ¬ S x = 0 := by rw [← hS x q]; exact hx2
      have g := hC x q hx3
      rw [hP x q] at hj2
      rw [hS (x + j) (by omega)]
      exact hG x q hx3 j hj hj2
    · subst q
      rw [← hs] at hj2
      exact h2 j hj hj2
  · rcases lt_or x hx hx2 with q | q
    · have hx3 : ¬ S x = 0 := by rw [← hS x q]; exact hx2
      have g := (hC x q hx3).1
      obtain ⟨o1, o2, o3, o4⟩ := hO x q hx3
      have L := ln_of (k := P x)
      rw [hP x q]
      refine ⟨o1, fun z => ?_, fun z => ?_, fun z => ?_⟩
      · have := L.1 z
        rw [hP (x + 1) (by omega)]; exact o2 z
      · have := L.2.1 z
        rw [hP (x + 1) (by omega)]; exact o3 z
      · have := L.2.2 z
        rw [hP (x + 1) (by omega), hP (x + 2) (by omega)]; exact o4 z
    · subst q
      exact hop
theorem app_R {N s : Nat} {σ μ : SG} {k : Int32} (h : hx_InvN N σ μ) (hs : ln k = s) : apR σ N k = maR μ N s := by
  unfold apR maR
  rw [inv_cnt h, hs]
/-- a state behind an appending -/
theorem app_I {N s : Nat} {σ μ σ2 μ2 : SG} (h : hx_InvN N σ μ) (hn : ∀ g, g < 4 → σ 7 g = -1) (hN : N + s ≤ 64) (e0 : σ2 0 0 = nI (N + s)) (e16 : μ2 16 2 = nI (N + s)) (e1 : μ2 17 = σ2 1) (e3 : μ2 18 = σ2 3) (hp : hx_Prog (σ2 1) (σ2 3) (N + s)) (hC : ∀ i, i < 64 → σ2 2 i = σ2 1 i) (e7 : σ2 7 = σ 7) (e9 : σ2 9 = σ 9) (e21 : μ2 21 = μ 21) (e22 : μ2 22 = μ 22) (e20 : μ2 20 = μ 20) (e10 : σ2 10 = σ 10) (ea : μ2 16 9 = μ 16 9) (eb : μ2 16 10 = μ 16 10) (ec : σ2 0 15 = σ 0 15) (ed : σ2 0 14 = σ 0 14) : hx_InvN (N + s) σ2 μ2 := by
  obtain ⟨_, _, _, _, hL, h20, h9, h10⟩ := h
  refine ⟨⟨hN, e0, e16⟩, ⟨e1, e3⟩, hp, Hk_none (by rw [e7]; exact hn) hC, by rw [e7, e9, e21, e22]; exact hL, by rw [e20, e10]; exact h20, by rw [ea, ec]; exact h9, by rw [eb, ed]; exact h10⟩
theorem le64 {n : Nat} (hn : n ≤ 1000) (h : nI n ≤ 64) : n ≤ 64 := (nI_leI (by omega) (by decide)).mp h
theorem app1 {N : Nat} {σ μ : SG} {k : Int32} (h : hx_InvN N σ μ) (hk : k = 0 ∨ k = 7) : hx_Inv (apS σ N k 0 0) (maS μ N 1 (ma1 μ N k)) := by
  have hs : ln k = 1 := by rcases hk with rfl | rfl <;> rfl
  unfold apS maS
  rw [inv_cnt h, hs]
  have hN := h.1.1
  split
  · rename_i c1
    split
    · rename_i c2
      have hn := inv_none h c1
      have c3 : N + 1 ≤ 64 := le64 (by omega) c2
      have e : ap σ N k 0 0 = ss (em σ N k) 3 N 1 := by unfold ap; rw [hs]; rfl
      rw [e]
      have eS : upd (upd (σ 3) N 0) N 1 = upd (σ 3) N 1 := upd_u _ _ _ _
      refine ⟨N + 1, app_I h hn c3 rfl rfl ?_ ?_ ?_ ?_ rfl rfl rfl rfl rfl rfl rfl rfl rfl rfl⟩
      · show upd (μ 17) N k = upd (σ 1) N k
        rw [h.2.1.1]
      · show upd (μ 18) N 1 = upd (upd (σ 3) N 0) N 1
        rw [eS, h.2.1.2]
      · show hx_Prog (upd (σ 1) N k) (upd (upd (σ 3) N 0) N 1) (N + 1)
        rw [eS]
        refine Prog_app h.2.2.1 (by rw [upd_s, hs]) (fun i hi => upd_n _ _ (by omega)) (fun i hi => upd_n _ _ (by omega)) (by rw [upd_s]; decide) (fun j h1 h2 => by omega) ?_
        rw [upd_s]
        rcases hk with rfl | rfl <;> exact ⟨by decide, fun q => absurd q (by decide), fun q => absurd q (by decide), fun q => absurd q (by decide)⟩
      · intro i hi
        show upd (σ 2) N k i = upd (σ 1) N k i
        by_cases q : i = N
        · rw [q, upd_s, upd_s]
        · rw [upd_n _ _ q, upd_n _ _ q]; exact inv_C h hn i hi
    · exact ⟨N, h⟩
  · exact ⟨N, h⟩
theorem app2 {N : Nat} {σ μ : SG} {k b t : Int32} (h : hx_InvN N σ μ) (hs : ln k = 2) (hk : ¬ k < 0 ∧ k ≤ 8) (hb : t &&& 255 = b) (h3 : k = 3 → ¬ b < 0 ∧ b ≤ 15) (h4 : k = 4 ∨ k = 6 → ¬ b < 0 ∧ b ≤ 255) : hx_Inv (apS σ N k b 0) (maS μ N 2 (ma2 μ N k t)) := by
  unfold apS maS
  rw [inv_cnt h, hs]
  have hN := h.1.1
  split
  · rename_i c1
    split
    · rename_i c2
      have hn := inv_none h c1
      have c3 : N + 2 ≤ 64 := le64 (by omega) c2
      have e : ap σ N k b 0 = em (ss (em σ N k) 3 N 1) (N + 1) b := by unfold ap; rw [hs]; rfl
      rw [e]
      have eS : upd (upd (upd (σ 3) N 0) N 1) (N + 1) 0 = upd (upd (σ 3) N 1) (N + 1) 0 := by rw [upd_u]
      refine ⟨N + 2, app_I h hn c3 rfl rfl ?_ ?_ ?_ ?_ rfl rfl rfl rfl rfl rfl rfl rfl rfl rfl⟩
      · show upd (upd (μ 17) N k) (N + 1) (t &&& 255) = upd (upd (σ 1) N k) (N + 1) b
        rw [h.2.1.1, hb]
      · show upd (upd (μ 18) N 1) (N + 1) 0 = upd (upd (upd (σ 3) N 0) N 1) (N + 1) 0
        rw [eS, h.2.1.2]
      · show hx_Prog (upd (upd (σ 1) N k) (N + 1) b) (upd (upd (upd (σ 3) N 0) N 1) (N + 1) 0) (N + 2)
        rw [eS]
        have eN : upd (upd (σ 1) N k) (N + 1) b N = k := by rw [upd_n _ _ (by omega), upd_s]
        refine Prog_app h.2.2.1 (by rw [eN, hs]) (fun i hi => by rw [upd_n _ _ (by omega), upd_n _ _ (by omega)]) (fun i hi => by rw [upd_n _ _ (by omega), upd_n _ _ (by omega)]) (by rw [upd_n _ _ (by omega), upd_s]; decide) (fun j h1 h2 => by rw [show j = 1 by omega, upd_s]) ?_
        rw [eN, upd_s]
        exact ⟨hk, h3, h4, fun q => absurd hs (by rw [q]; decide)⟩
      · intro i hi
        show upd (upd (σ 2) N k) (N + 1) b i = upd (upd (σ 1) N k) (N + 1) b i
        by_cases q : i = N + 1
        · rw [q, upd_s, upd_s]
        · rw [upd_n _ _ q, upd_n _ _ q]
          by_cases q : i = N
          · rw [q, upd_s, upd_s]
          · rw [upd_n _ _ q, upd_n _ _ q]; exact inv_C h hn i hi
    · exact ⟨N, h⟩
  · exact ⟨N, h⟩
theorem app3 {N : Nat} {σ μ : SG} {b d t : Int32} (h : hx_InvN N σ μ) (hb : ¬ b < 0 ∧ b ≤ 3) (hb2 : b &&& 255 = b) (hd : ¬ d < 0 ∧ d ≤ 255) (hd2 : t &&& 255 = d) : hx_Inv (apS σ N 5 b d) (maS μ N 3 (ma3 μ N 5 b t)) := by
  have hs : ln 5 = 3 := rfl
  unfold apS maS
  rw [inv_cnt h, hs]
  have hN := h.1.1
  split
  · rename_i c1
    split
    · rename_i c2
      have hn := inv_none h c1
      have c3 : N + 3 ≤ 64 := le64 (by omega) c2
      have e : ap σ N 5 b d = em (em (ss (em σ N 5) 3 N 1) (N + 1) b) (N + 2) d := by unfold ap; rw [hs]; rfl
      rw [e]
      have eS : upd (upd (upd (upd (σ 3) N 0) N 1) (N + 1) 0) (N + 2) 0 = upd (upd (upd (σ 3) N 1) (N + 1) 0) (N + 2) 0 := by rw [upd_u]
      refine ⟨N + 3, app_I h hn c3 rfl rfl ?_ ?_ ?_ ?_ rfl rfl rfl rfl rfl rfl rfl rfl rfl rfl⟩
      · show upd (upd (upd (μ 17) N 5) (N + 1) (b &&& 255)) (N + 2) (t &&& 255) = upd (upd (upd (σ 1) N 5) (N + 1) b) (N + 2) d
        rw [h.2.1.1, hb2, hd2]
      · show upd (upd (upd (μ 18) N 1) (N + 1) 0) (N + 2) 0 = upd (upd (upd (upd (σ 3) N 0) N 1) (N + 1) 0) (N + 2) 0
        rw [eS, h.2.1.2]
      · show hx_Prog (upd (upd (upd (σ 1) N 5) (N + 1) b) (N + 2) d) (upd (upd (upd (upd (σ 3) N 0) N 1) (N + 1) 0) (N + 2) 0) (N + 3)
        rw [eS]
        have eN : upd (upd (upd (σ 1) N 5) (N + 1) b) (N + 2) d N = 5 := by rw [upd_n _ _ (by omega), upd_n _ _ (by omega), upd_s]
        refine Prog_app h.2.2.1 (by rw [eN, hs]) (fun i hi => by rw [upd_n _ _ (by omega), upd_n _ _ (by omega), upd_n _ _ (by omega)]) (fun i hi => by rw [upd_n _ _ (by omega), upd_n _ _ (by omega), upd_n _ _ (by omega)]) (by rw [upd_n _ _ (by omega), upd_n _ _ (by omega), upd_s]; decide) (fun j h1 h2 => ?_) ?_
        · rcases (show j = 1 ∨ j = 2 by omega) with rfl | rfl
          · rw [upd_n _ _ (by omega), upd_s]
          · rw [upd_s]
        · rw [eN, upd_s, show upd (upd (upd (σ 1) N 5) (N + 1) b) (N + 2) d (N + 1) = b by rw [upd_n _ _ (by omega), upd_s]]
          exact ⟨by decide, fun q => absurd q (by decide), fun q => absurd q (by decide), fun _ => ⟨hb, hd⟩⟩
      · intro i hi
        show upd (upd (upd (σ 2) N 5) (N + 1) b) (N + 2) d i = upd (upd (upd (σ 1) N 5) (N + 1) b) (N + 2) d i
        by_cases q : i = N + 2
        · rw [q, upd_s, upd_s]
        · rw [upd_n _ _ q, upd_n _ _ q]
          by_cases q : i = N + 1
          · rw [q, upd_s, upd_s]
          · rw [upd_n _ _ q, upd_n _ _ q]
            by_cases q : i = N
            · rw [q, upd_s, upd_s]
            · rw [upd_n _ _ q, upd_n _ _ q]; exact inv_C h hn i hi
    · exact ⟨N, h⟩
  · exact ⟨N, h⟩
theorem and255 {x : Int32} (h0 : ¬ x < 0) (h : x ≤ 255) : x &&& 255 = x := by
  obtain ⟨j, hj, rfl⟩ := nI_of2 (n := 255) rfl h0 h
  rw [pk_andN (by omega) 8 (by decide), Nat.mod_eq_of_lt (by omega)]
theorem andneg : ∀ j, j < 128 → (-128 + nI j) &&& 255 = nI (j + 128) := by decide +kernel
theorem asByte_and {t : Int32} (h1 : ¬ t < -128) (h2 : t ≤ 127) : t &&& 255 = f_asByte t ∧ ¬ f_asByte t < 0 ∧ f_asByte t ≤ 255 := by
  unfold f_asByte
  split
  · exact ⟨and255 (by grind) (by grind), by grind, by grind⟩
  · have e : ∃ j : Nat, j ≤ 127 ∧ t + 128 = nI j := nI_of2 (x := t + 128) (M := 127) rfl (by grind) (by grind)
    obtain ⟨j, hj, ej⟩ := e
    have e2 : t = -128 + nI j := by grind
    refine ⟨?_, by grind, by grind⟩
    rw [e2, andneg j (by omega), ← nI_add, ← ej, show nI 128 = 128 from rfl]
    grind
theorem reg_iff {r : Int32} : (f_badReg r = 0 ↔ ¬ m_isRegister r = 0) ∧ (f_badReg r = 0 → ¬ r < 0 ∧ r ≤ 3) := by
  unfold f_badReg m_isRegister
  by_cases c1 : r < 0
  · simp [c1]
  · by_cases c2 : r ≤ 3
    · have : ¬ 3 < r := by grind
      simp [c1, c2, this]
    · have : 3 < r := by grind
      simp [c1, c2, this]
theorem tgt_iff {t : Int32} : (f_badTarget t = 0 ↔ ¬ m_isTarget t = 0) ∧ (f_badTarget t = 0 → ¬ t < -128 ∧ t ≤ 127) := by
  unfold f_badTarget m_isTarget
  by_cases c1 : t < -128
  · simp [c1]
  · by_cases c2 : t ≤ 127
    · have : ¬ 127 < t := by grind
      simp [c1, c2, this]
    · have : 127 < t := by grind
      simp [c1, c2, this]
end
section
/-! ===== dh_Stp of the simple methods ===== -/
theorem st_halt {σ μ : SG} (h : hx_Inv σ μ) : dh_Stp k_H_halt k_M_halt [] hx_Inv σ μ := by
  obtain ⟨N, h⟩ := h
  refine ⟨_, _, _, c_H_halt σ μ N h.1.1 h.1.2.1, ?_, app1 h (Or.inl rfl)⟩
  rw [app_R h (s := 1) rfl]
  exact c_M_halt _ μ N h.1.1 h.1.2.2
theorem st_giveBack {σ μ : SG} (h : hx_Inv σ μ) : dh_Stp k_H_giveBack k_M_giveBack [] hx_Inv σ μ := by
  obtain ⟨N, h⟩ := h
  refine ⟨_, _, _, c_H_giveBack σ μ N h.1.1 h.1.2.1, ?_, app1 h (Or.inr rfl)⟩
  rw [app_R h (s := 1) rfl]
  exact c_M_giveBack _ μ N h.1.1 h.1.2.2
theorem st_inc {σ μ : SG} (h : hx_Inv σ μ) (v : Int32) : dh_Stp k_H_inc k_M_inc [.inl v] hx_Inv σ μ := by
  obtain ⟨N, h⟩ := h
  have cH1 := c_H_inc σ μ v N h.1.1 h.1.2.1
  by_cases c : f_badReg v = 0
  · rw [if_pos c, if_pos c] at cH1
    have r := reg_iff.2 c
    refine ⟨_, _, _, cH1, ?_, app2 (t := v) h rfl (by decide) (and255 r.1 (by grind)) (fun q => absurd q (by decide)) (fun q => absurd q (by decide))⟩
    have cM1 := c_M_inc (apS σ N 1 v 0) μ v N h.1.1 h.1.2.2
    rw [if_neg (reg_iff.1.mp c), if_neg (reg_iff.1.mp c)] at cM1
    rw [app_R h (s := 2) rfl]
    exact cM1
  · rw [if_neg c, if_neg c] at cH1
    have e : m_isRegister v = 0 := Decidable.byContradiction (fun q => c (reg_iff.1.mpr q))
    have cM1 := c_M_inc σ μ v N h.1.1 h.1.2.2
    rw [if_pos e, if_pos e] at cM1
    exact ⟨_, _, _, cH1, cM1, ⟨N, h⟩⟩
theorem st_dec {σ μ : SG} (h : hx_Inv σ μ) (v : Int32) : dh_Stp k_H_dec k_M_dec [.inl v] hx_Inv σ μ := by
  obtain ⟨N, h⟩ := h
  have cH1 := c_H_dec σ μ v N h.1.1 h.1.2.1
  by_cases c : f_badReg v = 0
  · rw [if_pos c, if_pos c] at cH1
    have r := reg_iff.2 c
    refine ⟨_, _, _, cH1, ?_, app2 (t := v) h rfl (by decide) (and255 r.1 (by grind)) (fun q => absurd q (by decide)) (fun q => absurd q (by decide))⟩
    have cM1 := c_M_dec (apS σ N 2 v 0) μ v N h.1.1 h.1.2.2
    rw [if_neg (reg_iff.1.mp c), if_neg (reg_iff.1.mp c)] at cM1
    rw [app_R h (s := 2) rfl]
    exact cM1
  · rw [if_neg c, if_neg c] at cH1
    have e : m_isRegister v = 0 := Decidable.byContradiction (fun q => c (reg_iff.1.mpr q))
    have cM1 := c_M_dec σ μ v N h.1.1 h.1.2.2
    rw [if_pos e, if_pos e] at cM1
    exact ⟨_, _, _, cH1, cM1, ⟨N, h⟩⟩
theorem st_where {σ μ : SG} (h : hx_Inv σ μ) (v : Int32) : dh_Stp k_H_where k_M_where [.inl v] hx_Inv σ μ := by
  obtain ⟨N, h⟩ := h
  have cH1 := c_H_where σ μ v N h.1.1 h.1.2.1
  by_cases c : f_badReg v = 0
  · rw [if_pos c, if_pos c] at cH1
    have r := reg_iff.2 c
    refine ⟨_, _, _, cH1, ?_, app2 (t := v) h rfl (by decide) (and255 r.1 (by grind)) (fun q => absurd q (by decide)) (fun q => absurd q (by decide))⟩
    have cM1 := c_M_where (apS σ N 8 v 0) μ v N h.1.1 h.1.2.2
    rw [if_neg (reg_iff.1.mp c), if_neg (reg_iff.1.mp c)] at cM1
    rw [app_R h (s := 2) rfl]
    exact cM1
  · rw [if_neg c, if_neg c] at cH1
    have e : m_isRegister v = 0 := Decidable.byContradiction (fun q => c (reg_iff.1.mpr q))
    have cM1 := c_M_where σ μ v N h.1.1 h.1.2.2
    rw [if_pos e, if_pos e] at cM1
    exact ⟨_, _, _, cH1, cM1, ⟨N, h⟩⟩
theorem st_move {σ μ : SG} (h : hx_Inv σ μ) (v w : Int32) : dh_Stp k_H_move k_M_move [.inl v, .inl w] hx_Inv σ μ := by
  obtain ⟨N, h⟩ := h
  have cH1 := c_H_move σ μ v w N h.1.1 h.1.2.1
  by_cases c : f_badReg v = 0
  · have n1 := reg_iff.1.mp c
    rw [if_pos c, if_pos c] at cH1
    by_cases c2 : f_badReg w = 0
    · have n2 := reg_iff.1.mp c2
      rw [if_pos c2, if_pos c2] at cH1
      have r := reg_iff.2 c
      have r2 := reg_iff.2 c2
      have b1 : ¬ v + 4 * w < 0 := by grind
      have b2 : v + 4 * w ≤ 15 := by grind
      refine ⟨_, _, _, cH1, ?_, app2 (t := v + 4 * w) h rfl (by decide) (and255 b1 (by grind)) (fun _ => ⟨b1, b2⟩) (fun q => absurd q (by decide))⟩
      have cM1 := c_M_move (apS σ N 3 (v + 4 * w) 0) μ v w N h.1.1 h.1.2.2
      rw [if_neg n1, if_neg n1, if_neg n2, if_neg n2] at cM1
      rw [app_R h (s := 2) rfl]
      exact cM1
    · rw [if_neg c2, if_neg c2] at cH1
      have e : m_isRegister w = 0 := Decidable.byContradiction (fun q => c2 (reg_iff.1.mpr q))
      have cM1 := c_M_move σ μ v w N h.1.1 h.1.2.2
      rw [if_neg n1, if_neg n1, if_pos e, if_pos e] at cM1
      exact ⟨_, _, _, cH1, cM1, ⟨N, h⟩⟩
  · rw [if_neg c, if_neg c] at cH1
    have e : m_isRegister v = 0 := Decidable.byContradiction (fun q => c (reg_iff.1.mpr q))
    have cM1 := c_M_move σ μ v w N h.1.1 h.1.2.2
    rw [if_pos e, if_pos e] at cM1
    exact ⟨_, _, _, cH1, cM1, ⟨N, h⟩⟩
theorem st_jump {σ μ : SG} (h : hx_Inv σ μ) (v : Int32) : dh_Stp k_H_jump k_M_jump [.inl v] hx_Inv σ μ := by
  obtain ⟨N, h⟩ := h
  have cH1 := c_H_jump σ μ v N h.1.1 h.1.2.1
  by_cases c : f_badTarget v = 0
  · rw [if_pos c, if_pos c] at cH1
    have r := tgt_iff.2 c
    have b := asByte_and r.1 r.2
    refine ⟨_, _, _, cH1, ?_, app2 (t := v) h rfl (by decide) b.1 (fun q => absurd q (by decide)) (fun _ => b.2)⟩
    have cM1 := c_M_jump (apS σ N 4 (f_asByte v) 0) μ v N h.1.1 h.1.2.2
    rw [if_neg (tgt_iff.1.mp c), if_neg (tgt_iff.1.mp c)] at cM1
    rw [app_R h (s := 2) rfl]
    exact cM1
  · rw [if_neg c, if_neg c] at cH1
    have e : m_isTarget v = 0 := Decidable.byContradiction (fun q => c (tgt_iff.1.mpr q))
    have cM1 := c_M_jump σ μ v N h.1.1 h.1.2.2
    rw [if_pos e, if_pos e] at cM1
    exact ⟨_, _, _, cH1, cM1, ⟨N, h⟩⟩
theorem st_call {σ μ : SG} (h : hx_Inv σ μ) (v : Int32) : dh_Stp k_H_call k_M_call [.inl v] hx_Inv σ μ := by
  obtain ⟨N, h⟩ := h
  have cH1 := c_H_call σ μ v N h.1.1 h.1.2.1
  by_cases c : f_badTarget v = 0
  · rw [if_pos c, if_pos c] at cH1
    have r := tgt_iff.2 c
    have b := asByte_and r.1 r.2
    refine ⟨_, _, _, cH1, ?_, app2 (t := v) h rfl (by decide) b.1 (fun q => absurd q (by decide)) (fun _ => b.2)⟩
    have cM1 := c_M_call (apS σ N 6 (f_asByte v) 0) μ v N h.1.1 h.1.2.2
    rw [if_neg (tgt_iff.1.mp c), if_neg (tgt_iff.1.mp c)] at cM1
    rw [app_R h (s := 2) rfl]
    exact cM1
  · rw [if_neg c, if_neg c] at cH1
    have e : m_isTarget v = 0 := Decidable.byContradiction (fun q => c (tgt_iff.1.mpr q))
    have cM1 := c_M_call σ μ v N h.1.1 h.1.2.2
    rw [if_pos e, if_pos e] at cM1
    exact ⟨_, _, _, cH1, cM1, ⟨N, h⟩⟩
theorem st_branch {σ μ : SG} (h : hx_Inv σ μ) (v w : Int32) : dh_Stp k_H_branch k_M_branch [.inl v, .inl w] hx_Inv σ μ := by
  obtain ⟨N, h⟩ := h
  have cH1 := c_H_branch σ μ v w N h.1.1 h.1.2.1
  by_cases c : f_badReg v = 0
  · have n1 := reg_iff.1.mp c
    rw [if_pos c, if_pos c] at cH1
    by_cases c2 : f_badTarget w = 0
    · have n2 := tgt_iff.1.mp c2
      rw [if_pos c2, if_pos c2] at cH1
      have r := reg_iff.2 c
      have r2 := tgt_iff.2 c2
      have b := asByte_and r2.1 r2.2
      refine ⟨_, _, _, cH1, ?_, app3 (t := w) h r (and255 r.1 (by grind)) b.2 b.1⟩
      have cM1 := c_M_branch (apS σ N 5 v (f_asByte w)) μ v w N h.1.1 h.1.2.2
      rw [if_neg n1, if_neg n1, if_neg n2, if_neg n2] at cM1
      rw [app_R h (s := 3) rfl]
      exact cM1
    · rw [if_neg c2, if_neg c2] at cH1
      have e : m_isTarget w = 0 := Decidable.byContradiction (fun q => c2 (tgt_iff.1.mpr q))
      have cM1 := c_M_branch σ μ v w N h.1.1 h.1.2.2
      rw [if_neg n1, if_neg n1, if_pos e, if_pos e] at cM1
      exact ⟨_, _, _, cH1, cM1, ⟨N, h⟩⟩
  · rw [if_neg c, if_neg c] at cH1
    have e : m_isRegister v = 0 := Decidable.byContradiction (fun q => c (reg_iff.1.mpr q))
    have cM1 := c_M_branch σ μ v w N h.1.1 h.1.2.2
    rw [if_pos e, if_pos e] at cM1
    exact ⟨_, _, _, cH1, cM1, ⟨N, h⟩⟩
theorem inv_len {N : Nat} {σ μ : SG} (h : hx_InvN N σ μ) : σ 0 0 ≤ 64 ∧ μ 16 2 ≤ 64 := ⟨by rw [h.1.2.1]; exact nI_le (b := 64) h.1.1 (by decide), by rw [h.1.2.2]; exact nI_le (b := 64) h.1.1 (by decide)⟩
theorem st_length {σ μ : SG} (h : hx_Inv σ μ) : dh_Stp k_H_length k_M_length [] hx_Inv σ μ := by
  obtain ⟨N, h⟩ := h
  refine ⟨_, _, _, c_H_length σ μ, ?_, ⟨N, h⟩⟩
  rw [h.1.2.1, ← h.1.2.2]
  exact c_M_length σ μ
theorem st_ending {σ μ : SG} (h : hx_Inv σ μ) : dh_Stp k_H_ending k_M_ending [] hx_Inv σ μ := by
  obtain ⟨N, h⟩ := h
  refine ⟨_, _, _, c_H_ending σ μ, ?_, ⟨N, h⟩⟩
  rw [← h.2.2.2.2.2.2.1]
  exact c_M_ending σ μ
theorem st_executed {σ μ : SG} (h : hx_Inv σ μ) : dh_Stp k_H_executed k_M_executed [] hx_Inv σ μ := by
  obtain ⟨N, h⟩ := h
  refine ⟨_, _, _, c_H_executed σ μ, ?_, ⟨N, h⟩⟩
  rw [← h.2.2.2.2.2.2.2]
  exact c_M_executed σ μ
theorem st_hooks {σ μ : SG} (h : hx_Inv σ μ) : dh_Stp k_H_hooks k_M_hooks [] hx_Inv σ μ := by
  obtain ⟨N, h⟩ := h
  refine ⟨_, _, _, c_H_hooks σ μ, ?_, ⟨N, h⟩⟩
  rw [← inv_cnt h]
  exact c_M_hooks σ μ
theorem st_peek {σ μ : SG} (h : hx_Inv σ μ) (v : Int32) : dh_Stp k_H_peek k_M_peek [.inl v] hx_Inv σ μ := by
  obtain ⟨N, h⟩ := h
  refine ⟨_, _, _, c_H_peek σ μ v (inv_len h).1, ?_, ⟨N, h⟩⟩
  have e : f_peek σ v = m_peek μ v := by unfold f_peek m_peek; rw [h.1.2.1, h.1.2.2, h.2.1.1]
  rw [e]
  exact c_M_peek σ μ v (inv_len h).2
theorem st_clear {σ μ : SG} (h : hx_Inv σ μ) : dh_Stp k_H_clear k_M_clear [] hx_Inv σ μ := by
  obtain ⟨N, h⟩ := h
  have cH1 := c_H_clear σ μ
  by_cases c : cntH σ 4 ≤ 0
  · rw [if_pos c, if_pos c] at cH1
    have cM1 := c_M_clear (ss σ 0 0 0) μ
    rw [inv_cnt h, if_pos c, if_pos c] at cM1
    refine ⟨_, _, ss μ 16 2 0, cH1, ?_, ⟨0, ?_⟩⟩
    · rw [h.1.2.1, ← h.1.2.2]; exact cM1
    · have hn := inv_none h c
      obtain ⟨h1, h2, h3, h4, h5, h6, h7, h8⟩ := h
      exact ⟨⟨by decide, rfl, rfl⟩, h2, ⟨fun x hx => absurd hx (Nat.not_lt_zero x), fun x hx => absurd hx (Nat.not_lt_zero x), fun x hx => absurd hx (Nat.not_lt_zero x)⟩, Hk_none hn (fun i hi => h4.2.2 i hi (fun g a hg ha e => absurd (e.symm.trans (hn g hg)) (nI_m1 (by omega)))), h5, h6, h7, h8⟩
  · rw [if_neg c, if_neg c] at cH1
    have cM1 := c_M_clear σ μ
    rw [inv_cnt h, if_neg c, if_neg c] at cM1
    exact ⟨_, _, _, cH1, cM1, ⟨N, h⟩⟩
theorem st_setRegister {σ μ : SG} (h : hx_Inv σ μ) (v w : Int32) : dh_Stp k_H_setRegister k_M_setRegister [.inl v, .inl w] hx_Inv σ μ := by
  obtain ⟨N, h⟩ := h
  have cH1 := c_H_setRegister σ μ v w
  by_cases c : f_badReg v = 0
  · rw [if_pos c, if_pos c] at cH1
    have cM1 := c_M_setRegister (ss σ 10 v.toNatClampNeg w) μ v w
    rw [if_neg (reg_iff.1.mp c), if_neg (reg_iff.1.mp c)] at cM1
    obtain ⟨h1, h2, h3, h4, h5, h6, h7, h8⟩ := h
    refine ⟨_, _, _, cH1, cM1, ⟨N, h1, h2, h3, h4, h5, ?_, h7, h8⟩⟩
    show upd (μ 20) _ w = upd (σ 10) _ w
    rw [h6]
  · rw [if_neg c, if_neg c] at cH1
    have e : m_isRegister v = 0 := Decidable.byContradiction (fun q => c (reg_iff.1.mpr q))
    have cM1 := c_M_setRegister σ μ v w
    rw [if_pos e, if_pos e] at cM1
    exact ⟨_, _, _, cH1, cM1, ⟨N, h⟩⟩
theorem st_register {σ μ : SG} (h : hx_Inv σ μ) (v : Int32) : dh_Stp k_H_register k_M_register [.inl v] hx_Inv σ μ := by
  obtain ⟨N, h⟩ := h
  have cH1 := c_H_register σ μ v
  have cM1 := c_M_register σ μ v
  by_cases c : f_badReg v = 0
  · rw [if_pos c] at cH1
    rw [if_neg (reg_iff.1.mp c), h.2.2.2.2.2.1] at cM1
    exact ⟨_, _, _, cH1, cM1, ⟨N, h⟩⟩
  · rw [if_neg c] at cH1
    have e : m_isRegister v = 0 := Decidable.byContradiction (fun q => c (reg_iff.1.mpr q))
    rw [if_pos e] at cM1
    exact ⟨_, _, _, cH1, cM1, ⟨N, h⟩⟩
theorem slot_iff {N : Nat} {σ μ : SG} (h : hx_InvN N σ μ) {a : Nat} (ha : a < 64) : (μ 21 a = 0 ∧ slN σ (nI a) 4 = -1 ∧ (∀ g, g < 4 → ¬ σ 7 g = nI a)) ∨ (¬ μ 21 a = 0 ∧ ∃ s, s < 4 ∧ slN σ (nI a) 4 = nI s ∧ σ 7 s = nI a) := by
  have hL := h.2.2.2.2.1.1 a ha
  rcases slN_spec σ (nI a) 4 with ⟨h1, h2⟩ | ⟨s, h1, h2, h3⟩
  · exact Or.inl ⟨hL.mpr h2, h1, h2⟩
  · exact Or.inr ⟨fun q => hL.mp q s h1 h3, s, h1, h2, h3⟩
theorem st_calls {σ μ : SG} (h : hx_Inv σ μ) (v : Int32) : dh_Stp k_H_calls k_M_calls [.inl v] hx_Inv σ μ := by
  obtain ⟨N, h⟩ := h
  refine ⟨_, _, _, c_H_calls σ μ v, ?_, ⟨N, h⟩⟩
  have e : (if v < 0 then -1 else if v < 64 then (if 0 ≤ slN σ v 4 then σ 9 (slN σ v 4).toNatClampNeg else -3) else -1) = m_calls μ v := by
    unfold m_calls
    by_cases c1 : v < 0
    · rw [if_pos c1, if_pos c1]
    · rw [if_neg c1, if_neg c1]
      by_cases c2 : v < 64
      · have c3 : v ≤ 63 := by grind
        rw [if_pos c2, if_pos c3]
        obtain ⟨a, ha, rfl⟩ := nI_of2 (n := 63) rfl c1 c3
        rw [nI_clamp (by omega)]
        rcases slot_iff h (show a < 64 by omega) with ⟨q1, q2, q3⟩ | ⟨q1, s, q2, q3, q4⟩
        · rw [if_pos q1, q2, if_neg (by decide)]
        · rw [if_neg q1, q3, if_pos (nI_pos' (by omega)), nI_clamp (by omega)]
          exact h.2.2.2.2.1.2.1 s a q2 (by omega) q4
      · have c3 : ¬ v ≤ 63 := by grind
        rw [if_neg c2, if_neg c3]
  rw [e]
  exact c_M_calls σ μ v
theorem s0_inv : hx_Inv s0H s0M := by
  refine ⟨0, ⟨by decide, rfl, rfl⟩, ⟨rfl, rfl⟩, ⟨fun x hx => absurd hx (Nat.not_lt_zero x), fun x hx => absurd hx (Nat.not_lt_zero x), fun x hx => absurd hx (Nat.not_lt_zero x)⟩, Hk_none (fun g hg => ?_) (fun _ _ => rfl), ⟨fun a ha => ⟨fun _ g hg e => ?_, fun _ => rfl⟩, fun g a hg ha e => ?_, by decide +kernel⟩, rfl, rfl, rfl⟩
  · rcases (show g = 0 ∨ g = 1 ∨ g = 2 ∨ g = 3 by omega) with rfl | rfl | rfl | rfl <;> rfl
  · have q : s0H 7 g = -1 := by rcases (show g = 0 ∨ g = 1 ∨ g = 2 ∨ g = 3 by omega) with rfl | rfl | rfl | rfl <;> rfl
    exact nI_m1 (by omega) (e.symm.trans q)
  · have q : s0H 7 g = -1 := by rcases (show g = 0 ∨ g = 1 ∨ g = 2 ∨ g = 3 by omega) with rfl | rfl | rfl | rfl <;> rfl
    exact absurd (e.symm.trans q) (nI_m1 (by omega))
end
section
/-! ===== running: the relation, what stands at an address ===== -/
def hx_C1 (P S HA : Nat → Int32) (N : Nat) (pc x : Int32) : Prop := pc = x ∧ x < 512 ∧ ∀ y, y < N → ¬ S y = 0 → x = nI y → ∀ h a, h < 4 → a < 64 → HA h = nI a → ¬ (a < y ∧ y < a + hl P a)
def hx_C2 (P C S M Ar HA : Nat → Int32) (N : Nat) (pc x : Int32) : Prop := ∃ h a m X W i, (h < 4 ∧ a < 64 ∧ HA h = nI a) ∧ hx_HD P C S M Ar N h a m X W ∧ (0 < i ∧ i ≤ m) ∧ pc = nI (512 + W i) ∧ x = nI (X i)
def hx_Cor (P C S M Ar HA : Nat → Int32) (N : Nat) (pc x : Int32) : Prop := hx_C1 P S HA N pc x ∨ hx_C2 P C S M Ar HA N pc x
abbrev hx_CorO (σ : SG) (N : Nat) (pc x : Int32) : Prop := hx_Cor (σ 1) (σ 2) (σ 3) (σ 4) (σ 5) (σ 7) N pc x
def hx_Stk (N : Nat) (σ μ : SG) : Prop := ∃ d, d ≤ 8 ∧ σ 0 11 = nI d ∧ μ 16 7 = nI d ∧ ∀ i, i < d → hx_CorO σ N (σ 12 i) (μ 23 i)
def hx_RR (N : Nat) (σ μ : SG) : Prop := hx_InvN N σ μ ∧ (σ 0 15 = 0 → hx_Stk N σ μ ∧ hx_CorO σ N (σ 0 13) (μ 16 8))
section HDS
variable {P C S M Ar HA HL : Nat → Int32} {N h a m : Nat} {X W : Nat → Nat}
theorem Hk_at (H : hx_Hk P C S M Ar HA HL N) (hN : N ≤ 64) (hh : h < 4) (e : HA h = nI a) (ha : a < 64) : hx_At P C S M Ar HL N h a := by
  rcases H.1 h hh with q | ⟨b, e2, q⟩
  · exact absurd (e.symm.trans q) (nI_m1 (by omega))
  · have hb := q.1.1
    rw [(nI_eq (by omega) (by omega)).mp (e.symm.trans e2)]
    exact q
theorem HD_mono (H : hx_HD P C S M Ar N h a m X W) : ∀ j i, i + j ≤ m → X i + j ≤ X (i + j) ∧ W i + j ≤ W (i + j) := by
  intro j
  induction j with
  | zero => exact fun i _ => ⟨Nat.le_refl _, Nat.le_refl _⟩
  | succ j ih =>
    intro i hi
    have g := ih i (by omega)
    have q := (H.2.1 (i + j) (by omega)).2.1
    have l := ln_in (P (X (i + j)))
    have d := dl_in (P (X (i + j)))
    rw [show i + (j + 1) = i + j + 1 by omega, q.1, q.2]
    omega
/-- places in the second area are within the hook's 16 bytes -/
theorem HD_w (H : hx_HD P C S M Ar N h a m X W) {i : Nat} (hi : i ≤ m) : 16 * h + 2 ≤ W i ∧ W i + 3 ≤ 16 * h + 16 ∧ a ≤ X i ∧ X i ≤ a + hl P a := by
  have g1 := HD_mono H i 0 (by omega)
  have g2 := HD_mono H (m - i) i (by omega)
  rw [show i + (m - i) = m by omega] at g2
  rw [show 0 + i = i by omega] at g1
  obtain ⟨⟨_, e1, e2, e3, e4⟩, _⟩ := H
  omega
theorem HD_wd (H : hx_HD P C S M Ar N h a m X W) {i : Nat} (hi : i < m) : W i + dl (P (X i)) + 3 ≤ 16 * h + 16 := by
  have := HD_w H (i := i + 1) (by omega)
  have q := (H.2.1 i hi).2.1.2
  omega
theorem in_head (hG : Gap P S N) (H : hx_HD P C S M Ar N h a m X W) {y : Nat} (hy : y < N) (hs : ¬ S y = 0) (h1 : a ≤ y) (h2 : y < a + hl P a) : ∃ i, i < m ∧ y = X i := by
  by_cases q : ∃ i, i < m ∧ y = X i
  · exact q
  · exfalso
    have key : ∀ j, j ≤ m → X j ≤ y := by
      intro j
      induction j with
      | zero => intro _; rw [H.1.2.1]; exact h1
      | succ j ih =>
        intro hj
        have g := ih (by omega)
        have r := H.2.1 j (by omega)
        have ne : ¬ y = X j := fun e => q ⟨j, by omega, e⟩
        rcases Nat.lt_or_ge y (X (j + 1)) with z | z
        · rw [r.2.1.1] at z
          exact absurd (by rw [show y = X j + (y - X j) by omega]; exact hG (X j) r.1.1 r.1.2 (y - X j) (by omega) (by omega)) hs
        · exact z
    have := key m (Nat.le_refl m)
    have e := H.1.2.2.2.1
    omega
theorem next_le (hG : Gap P S N) {x y : Nat} (hx : x < N) (hsx : ¬ S x = 0) (hsy : ¬ S y = 0) (h : x < y) : x + ln (P x) ≤ y := by
  rcases Nat.lt_or_ge y (x + ln (P x)) with z | z
  · exact absurd (by rw [show y = x + (y - x) by omega]; exact hG x hx hsx (y - x) (by omega) (by omega)) hsy
  · exact z
end HDS
theorem signed_in {b : Int32} (h0 : ¬ b < 0) (h : b ≤ 255) : -128 ≤ f_signed b ∧ f_signed b ≤ 127 := by
  unfold f_signed
  split
  · exact ⟨by grind, by grind⟩
  · exact ⟨by grind, by grind⟩
theorem tg_lt {P S : Nat → Int32} {N y : Nat} (hp : hx_Prog P S N) (hN : N ≤ 64) (hy : y < N) (hs : ¬ S y = 0) : tgI P y < 512 := by
  have hO := hp.2.2 y hy hs
  have hC := (hp.1 y hy hs).1
  unfold tgI
  split
  · decide
  · split
    · rename_i c1 c2
      have e : P y = 4 ∨ P y = 5 ∨ P y = 6 := by grind
      have b1 : nI (y + ln (P y)) ≤ 64 := nI_le (b := 64) (by omega) (by decide)
      have b2 : f_signed (P (y + ln (P y) - 1)) ≤ 127 ∧ -128 ≤ f_signed (P (y + ln (P y) - 1)) := by
        rcases e with e | e | e
        · rw [e]; have := hO.2.2.1 (Or.inl e); exact (signed_in this.1 this.2).symm
        · rw [e]; have := (hO.2.2.2 e).2; exact (signed_in this.1 this.2).symm
        · rw [e]; have := hO.2.2.1 (Or.inr e); exact (signed_in this.1 this.2).symm
      have b3 : 0 ≤ nI (y + ln (P y)) := nI_pos' (by omega)
      grind
    · decide
section STEP
variable {N : Nat} {σ μ : SG}
/-- a jump's target stands outside the heads -/
theorem cor_tg (hI : hx_InvN N σ μ) {y : Nat} (hy : y < N) (hs : ¬ σ 3 y = 0) : hx_CorO σ N (tgI (σ 1) y) (tgI (σ 1) y) := by
  refine Or.inl ⟨rfl, tg_lt hI.2.2.1 hI.1.1 hy hs, fun z hz hzs ez h a hh ha e hin => ?_⟩
  have A := Hk_at hI.2.2.2.1 hI.1.1 hh e ha
  have hlin := hl_in (σ 1) a
  rcases A.2.1 y hy hs with q | q
  · rw [ez] at q
    have := (nI_leI (by have := hI.1.1; omega) (by omega)).mp q
    omega
  · rw [ez] at q
    have := (nI_leI (by omega) (by have := hI.1.1; omega)).mp q
    omega
/-- an instruction outside the heads: its bytes are plain, the next address is outside the heads -/
theorem out_bytes (hI : hx_InvN N σ μ) {y : Nat} (hy : y < N) (hs : ¬ σ 3 y = 0) (ho : ∀ h a, h < 4 → a < 64 → σ 7 h = nI a → ¬ (a ≤ y ∧ y < a + hl (σ 1) a)) : ∀ j, j < ln (σ 1 y) → σ 2 (y + j) = σ 1 (y + j) := by
  intro j hj
  have hC := (hI.2.2.1.1 y hy hs).1
  have hN := hI.1.1
  refine hI.2.2.2.1.2.2 (y + j) (by omega) (fun h a hh ha e hin => ?_)
  have A := Hk_at hI.2.2.2.1 hN hh e ha
  rcases Nat.lt_or_ge y a with q | q
  · have := next_le hI.2.2.1.2.1 hy hs A.1.2.1 q
    omega
  · exact ho h a hh ha e ⟨q, by omega⟩
theorem out_next (hI : hx_InvN N σ μ) {y : Nat} (hy : y < N) (hs : ¬ σ 3 y = 0) (ho : ∀ h a, h < 4 → a < 64 → σ 7 h = nI a → ¬ (a ≤ y ∧ y < a + hl (σ 1) a)) : hx_CorO σ N (nI (y + ln (σ 1 y))) (nI (y + ln (σ 1 y))) := by
  have hC := (hI.2.2.1.1 y hy hs).1
  have hN := hI.1.1
  have l := ln_in (σ 1 y)
  refine Or.inl ⟨rfl, nI_lt (b := 512) (by omega) (by decide), fun z hz hzs ez h a hh ha e hin => ?_⟩
  have ez2 := (nI_eq (by omega) (by omega)).mp ez
  have A := Hk_at hI.2.2.2.1 hN hh e ha
  rcases Nat.lt_or_ge y a with q | q
  · have := next_le hI.2.2.1.2.1 hy hs A.1.2.1 q
    omega
  · exact ho h a hh ha e ⟨q, by omega⟩
/-- what an executed instruction (kind k, second byte b, target tg, next address nx) does to the object -/
def hx_E (σ1 : SG) (k b tg nx v2 : Int32) : SG :=
  if k = 0 then ss σ1 0 15 1
  else if k = 7 then f_leave σ1
  else if k = 4 then ss σ1 0 13 tg
  else if k = 5 then (if σ1 10 (b &&& 3).toNatClampNeg = 0 then ss σ1 0 13 nx else ss σ1 0 13 tg)
  else if k = 6 then f_enter σ1 nx tg
  else ss (f_change σ1 k (b &&& 3) b v2) 0 13 nx
theorem ss_ss (σ : SG) (c k : Nat) (v w : Int32) : ss (ss σ c k v) c k w = ss σ c k w := by
  funext c2
  unfold ss
  by_cases q : c2 = c
  · rw [if_pos q, if_pos q, if_pos rfl, upd_u]
  · rw [if_neg q, if_neg q, if_neg q]
theorem ss_cm (σ : SG) {c d : Nat} (k j : Nat) (v w : Int32) (hcd : c ≠ d) : ss (ss σ c k v) d j w = ss (ss σ d j w) c k v := by
  funext c2
  unfold ss
  by_cases q : c2 = c
  · subst q
    rw [if_neg hcd, if_pos rfl, if_pos rfl, if_neg hcd]
  · by_cases q2 : c2 = d
    · subst q2
      rw [if_pos rfl, if_neg q, if_neg q, if_pos rfl]
    · rw [if_neg q2, if_neg q, if_neg q, if_neg q2]
theorem kind_cases {k : Int32} (h0 : ¬ k < 0) (h8 : k ≤ 8) : k = 0 ∨ k = 1 ∨ k = 2 ∨ k = 3 ∨ k = 4 ∨ k = 5 ∨ k = 6 ∨ k = 7 ∨ k = 8 := by
  obtain ⟨j, hj, rfl⟩ := nI_of2 (n := 8) rfl h0 h8
  rcases (show j = 0 ∨ j = 1 ∨ j = 2 ∨ j = 3 ∨ j = 4 ∨ j = 5 ∨ j = 6 ∨ j = 7 ∨ j = 8 by omega) with rfl | rfl | rfl | rfl | rfl | rfl | rfl | rfl | rfl <;> decide
theorem plain_E {σ1 : SG} {k b tg nx v2 : Int32} (hk : k = 0 ∨ k = 1 ∨ k = 2 ∨ k = 3 ∨ k = 4 ∨ k = 5 ∨ k = 6 ∨ k = 7 ∨ k = 8) (g1 : 1 < ln k → f_fetch σ1 (σ1 0 13 + 1) = b) (hnx : σ1 0 13 + nI (ln k) = nx) (h4 : k = 4 ∨ k = 6 → nx + f_signed b = tg) (h5 : k = 5 → nx + f_signed (f_fetch σ1 (σ1 0 13 + 2)) = tg) (h8 : k = 8 → nx = v2) : f_plain σ1 k = hx_E σ1 k b tg nx v2 := by
  unfold f_plain hx_E
  rw [hnx]
  rcases hk with rfl | rfl | rfl | rfl | rfl | rfl | rfl | rfl | rfl
  · simp
  · rw [g1 (by decide)]; simp [f_change]
  · rw [g1 (by decide)]; simp [f_change]
  · rw [g1 (by decide)]; simp [f_change]
  · rw [g1 (by decide), h4 (Or.inl rfl)]; simp
  · rw [g1 (by decide), h5 rfl]; simp
  · rw [g1 (by decide), h4 (Or.inr rfl)]; simp
  · simp
  · rw [g1 (by decide), h8 rfl]; simp
theorem tg_4 {P : Nat → Int32} {y : Nat} (h : P y = 4 ∨ P y = 6) : nI (y + ln (P y)) + f_signed (P (y + 1)) = tgI P y := by
  unfold tgI
  rcases h with h | h <;> (rw [h]; rfl)
theorem tg_5 {P : Nat → Int32} {y : Nat} (h : P y = 5) : nI (y + ln (P y)) + f_signed (P (y + 2)) = tgI P y := by
  unfold tgI
  rw [h]; rfl
/-- outside the heads the code runs as it stands -/
theorem exec_A (hI : hx_InvN N σ μ) {y : Nat} (hy : y < N) (hs : ¬ σ 3 y = 0) (hpc : σ 0 13 = nI y) (ho : ∀ h a, h < 4 → a < 64 → σ 7 h = nI a → ¬ (a ≤ y ∧ y < a + hl (σ 1) a)) : f_exec σ = hx_E (ss σ 0 14 (σ 0 14 + 1)) (σ 1 y) (σ 1 (y + 1)) (tgI (σ 1) y) (nI (y + ln (σ 1 y))) (nI (y + 2)) := by
  have hN := hI.1.1
  have hC := (hI.2.2.1.1 y hy hs).1
  have hO := (hI.2.2.1.2.2 y hy hs).1
  have l := ln_in (σ 1 y)
  have hb := out_bytes hI hy hs ho
  have f0 : f_fetch σ (nI y) = σ 1 y := by rw [fetch_C (by omega)]; exact hb 0 (by omega)
  have f1 : 1 < ln (σ 1 y) → f_fetch σ (nI y + 1) = σ 1 (y + 1) := fun q => by rw [nI_1, fetch_C (by omega)]; exact hb 1 q
  have f2 : 2 < ln (σ 1 y) → f_fetch σ (nI y + 2) = σ 1 (y + 2) := fun q => by rw [show nI y + 2 = nI (y + 2) from nI_add y 2, fetch_C (by omega)]; exact hb 2 q
  have n9 : ¬ σ 1 y = 9 := by grind
  have n10 : ¬ σ 1 y = 10 := by grind
  have l11 : σ 1 y < 11 := by grind
  unfold f_exec
  rw [hpc, f0, if_neg n9, if_neg n10, if_pos l11]
  have eP : (ss σ 0 14 (σ 0 14 + 1)) 0 13 = nI y := hpc
  refine plain_E (kind_cases hO.1 hO.2) ?_ ?_ tg_4 ?_ ?_
  · rw [eP]; exact f1
  · rw [eP, nI_add]
  · intro q
    rw [eP]
    have : f_fetch (ss σ 0 14 (σ 0 14 + 1)) (nI y + 2) = σ 1 (y + 2) := f2 (by rw [q]; decide)
    rw [this]
    exact tg_5 q
  · intro q
    rw [q]; rfl
/-- in the second area the moved instructions do the same -/
theorem exec_B (hI : hx_InvN N σ μ) {h a m i : Nat} {X W : Nat → Nat} (hh : h < 4) (H : hx_HD (σ 1) (σ 2) (σ 3) (σ 4) (σ 5) N h a m X W) (hi : i < m) (hpc : σ 0 13 = nI (512 + W i)) : f_exec σ = hx_E (ss σ 0 14 (σ 0 14 + 1)) (σ 1 (X i)) (σ 1 (X i + 1)) (tgI (σ 1) (X i)) (nI (512 + W (i + 1))) (nI (X i + 2)) := by
  have hr := H.2.1 i hi
  have hw := HD_wd H hi
  have hO := (hI.2.2.1.2.2 (X i) hr.1.1 hr.1.2).1
  have hd := dl_in (σ 1 (X i))
  obtain ⟨r4, r5, r6, r8, r0⟩ := hr.2.2.1
  have f0 : f_fetch σ (nI (512 + W i)) = σ 5 (W i) := fetch_A (by omega)
  have f1 : W i + 1 < 64 → f_fetch σ (nI (512 + W i) + 1) = σ 5 (W i + 1) := fun q => by rw [nI_1, show 512 + W i + 1 = 512 + (W i + 1) by omega, fetch_A q]
  have a1 : f_fa σ (nI (512 + W i) + 1) = hx_adr (σ 5) (W i + 1) := by rw [nI_1, show 512 + W i + 1 = 512 + (W i + 1) by omega, fa_A (by omega)]
  have a2 : f_fa σ (nI (512 + W i) + 2) = hx_adr (σ 5) (W i + 2) := by rw [show nI (512 + W i) + 2 = nI (512 + W i + 2) from nI_add _ 2, show 512 + W i + 2 = 512 + (W i + 2) by omega, fa_A (by omega)]
  have eP : (ss σ 0 14 (σ 0 14 + 1)) 0 13 = nI (512 + W i) := hpc
  have eA1 : f_fa (ss σ 0 14 (σ 0 14 + 1)) (nI (512 + W i) + 1) = hx_adr (σ 5) (W i + 1) := a1
  have eA2 : f_fa (ss σ 0 14 (σ 0 14 + 1)) (nI (512 + W i) + 2) = hx_adr (σ 5) (W i + 2) := a2
  have eF1 : W i + 1 < 64 → f_fetch (ss σ 0 14 (σ 0 14 + 1)) (nI (512 + W i) + 1) = σ 5 (W i + 1) := f1
  unfold f_exec
  rw [hpc, f0, hr.2.1.2]
  by_cases k4 : σ 1 (X i) = 4
  · have hdl : dl (σ 1 (X i)) = 3 := by rw [k4]; rfl
    have q := r4 k4
    rw [q.1, if_neg (by decide), if_neg (by decide), if_neg (by decide)]
    unfold f_far hx_E
    rw [eP, eA1, q.2, k4]
    simp
  by_cases k5 : σ 1 (X i) = 5
  · have hdl : dl (σ 1 (X i)) = 4 := by rw [k5]; rfl
    have q := r5 k5
    rw [q.1, if_neg (by decide), if_neg (by decide), if_neg (by decide)]
    unfold f_far hx_E
    rw [eP, eA2, q.2.2, eF1 (by omega), q.2.1, hdl, k5, show nI (512 + W i) + 4 = nI (512 + (W i + 4)) from nI_add _ 4]
    simp [ss_ss]
  by_cases k6 : σ 1 (X i) = 6
  · have hdl : dl (σ 1 (X i)) = 3 := by rw [k6]; rfl
    have q := r6 k6
    rw [q.1, if_neg (by decide), if_neg (by decide), if_neg (by decide)]
    unfold f_far hx_E
    rw [eP, eA1, q.2, hdl, k6, show nI (512 + W i) + 3 = nI (512 + (W i + 3)) from nI_add _ 3]
    simp
  by_cases k8 : σ 1 (X i) = 8
  · have hdl : dl (σ 1 (X i)) = 4 := by rw [k8]; rfl
    have q := r8 k8
    rw [q.1, if_neg (by decide), if_neg (by decide), if_neg (by decide)]
    unfold f_far hx_E
    rw [eP, eA2, q.2.2, eF1 (by omega), q.2.1, hdl, k8, show nI (512 + W i) + 4 = nI (512 + (W i + 4)) from nI_add _ 4]
    simp [f_change]
    exact ss_cm _ _ _ _ _ (by decide)
  · have q := r0 k4 k5 k6 k8
    have n9 : ¬ σ 1 (X i) = 9 := by grind
    have n10 : ¬ σ 1 (X i) = 10 := by grind
    have l11 : σ 1 (X i) < 11 := by grind
    rw [q.1, if_neg n9, if_neg n10, if_pos l11]
    have kc := kind_cases hO.1 hO.2
    have hdl : dl (σ 1 (X i)) = ln (σ 1 (X i)) := by rcases kc with k | k | k | k | k | k | k | k | k <;> first | exact absurd k k4 | exact absurd k k5 | exact absurd k k6 | exact absurd k k8 | (rw [k]; rfl)
    refine plain_E kc ?_ ?_ (fun z => z.elim (fun z => absurd z k4) (fun z => absurd z k6)) (fun z => absurd z k5) (fun z => absurd z k8)
    · intro z
      rw [eP, eF1 (by omega)]
      refine q.2 ?_ ?_
      · rcases kc with k | k | k | k | k | k | k | k | k <;> first | (rw [k] at z; exact absurd z (by decide)) | (rw [k]; decide)
      · rcases kc with k | k | k | k | k | k | k | k | k <;> first | (rw [k] at z; exact absurd z (by decide)) | exact absurd k k4 | exact absurd k k5 | exact absurd k k6 | exact absurd k k8 | (rw [k]; decide)
    · rw [eP, hdl, nI_add]
      exact congrArg nI (by omega)
end STEP
end
section
/-! ===== running: one instruction on both sides ===== -/
section STEP2
variable {N : Nat} {σ μ : SG}
set_option maxHeartbeats 1000000 in
theorem E_RR (hI : hx_InvN N σ μ) (hst : hx_Stk N σ μ) {y : Nat} (hy : y < N) (hs : ¬ σ 3 y = 0) {nx : Int32} (hnx : hx_CorO σ N nx (nI (y + ln (σ 1 y)))) :
    hx_RR N (hx_E (ss σ 0 14 (σ 0 14 + 1)) (σ 1 y) (σ 1 (y + 1)) (tgI (σ 1) y) nx (nI (y + 2))) (ss (m_goOn (m_chg μ y) y (μ 17 y) (nI (y + ln (μ 17 y)))) 16 10 (μ 16 10 + 1)) := by
  have htg := cor_tg hI hy hs
  have hO := hI.2.2.1.2.2 y hy hs
  have kc := kind_cases hO.1.1 hO.1.2
  obtain ⟨h1, h2, hp, hH, hL, h20, h9, h10⟩ := id hI
  have h17 := h2.1
  have hD : μ 16 10 + 1 = σ 0 14 + 1 := by rw [h10]
  rcases kc with k | k | k | k | k | k | k | k | k
  · have eE : hx_E (ss σ 0 14 (σ 0 14 + 1)) (σ 1 y) (σ 1 (y + 1)) (tgI (σ 1) y) nx (nI (y + 2)) = ss (ss σ 0 14 (σ 0 14 + 1)) 0 15 1 := by simp [hx_E, k]
    have eM : m_goOn (m_chg μ y) y (μ 17 y) (nI (y + ln (μ 17 y))) = ss μ 16 9 1 := by simp [m_goOn, m_chg, h17, k]
    rw [eE, eM]
    exact ⟨⟨h1, h2, hp, hH, hL, h20, rfl, hD⟩, fun hz => absurd hz (show ¬ (1 : Int32) = 0 by decide)⟩
  · have eE : hx_E (ss σ 0 14 (σ 0 14 + 1)) (σ 1 y) (σ 1 (y + 1)) (tgI (σ 1) y) nx (nI (y + 2)) = ss (ss (ss σ 0 14 (σ 0 14 + 1)) 10 (σ 1 (y + 1) &&& 3).toNatClampNeg (σ 10 (σ 1 (y + 1) &&& 3).toNatClampNeg + 1)) 0 13 nx := by simp [hx_E, f_change, k]; rfl
    have eM : m_goOn (m_chg μ y) y (μ 17 y) (nI (y + ln (μ 17 y))) = ss (ss μ 20 (σ 1 (y + 1) &&& 3).toNatClampNeg (μ 20 (σ 1 (y + 1) &&& 3).toNatClampNeg + 1)) 16 8 (nI (y + ln (σ 1 y))) := by simp [m_goOn, m_chg, m_op, ln, h17, k]
    rw [eE, eM]
    refine ⟨⟨h1, h2, hp, hH, hL, ?_, h9, hD⟩, fun hz => ⟨hst, hnx⟩⟩
    show upd (μ 20) _ _ = upd (σ 10) _ _
    rw [h20]
  · have eE : hx_E (ss σ 0 14 (σ 0 14 + 1)) (σ 1 y) (σ 1 (y + 1)) (tgI (σ 1) y) nx (nI (y + 2)) = ss (ss (ss σ 0 14 (σ 0 14 + 1)) 10 (σ 1 (y + 1) &&& 3).toNatClampNeg (σ 10 (σ 1 (y + 1) &&& 3).toNatClampNeg - 1)) 0 13 nx := by simp [hx_E, f_change, k]; rfl
    have eM : m_goOn (m_chg μ y) y (μ 17 y) (nI (y + ln (μ 17 y))) = ss (ss μ 20 (σ 1 (y + 1) &&& 3).toNatClampNeg (μ 20 (σ 1 (y + 1) &&& 3).toNatClampNeg - 1)) 16 8 (nI (y + ln (σ 1 y))) := by simp [m_goOn, m_chg, m_op, ln, h17, k]
    rw [eE, eM]
    refine ⟨⟨h1, h2, hp, hH, hL, ?_, h9, hD⟩, fun hz => ⟨hst, hnx⟩⟩
    show upd (μ 20) _ _ = upd (σ 10) _ _
    rw [h20]
  · have hb := hO.2.1 k
    have e3 : σ 1 (y + 1) >>> ((2 : Int32) &&& 31) &&& 3 = σ 1 (y + 1) >>> ((2 : Int32) &&& 31) := by
      obtain ⟨j, hj, ej⟩ := nI_of2 (n := 15) rfl hb.1 hb.2
      rw [ej]
      exact (show ∀ j, j < 16 → nI j >>> ((2 : Int32) &&& 31) &&& 3 = nI j >>> ((2 : Int32) &&& 31) by decide +kernel) j (by omega)
    have eE : hx_E (ss σ 0 14 (σ 0 14 + 1)) (σ 1 y) (σ 1 (y + 1)) (tgI (σ 1) y) nx (nI (y + 2)) = ss (ss (ss σ 0 14 (σ 0 14 + 1)) 10 (σ 1 (y + 1) &&& 3).toNatClampNeg (σ 10 (σ 1 (y + 1) >>> ((2 : Int32) &&& 31)).toNatClampNeg)) 0 13 nx := by
      unfold hx_E f_change
      rw [e3, k, if_neg (by decide), if_neg (by decide), if_neg (by decide), if_neg (by decide), if_neg (by decide), if_neg (by decide), if_neg (by decide), if_pos rfl]
      rfl
    have eM : m_goOn (m_chg μ y) y (μ 17 y) (nI (y + ln (μ 17 y))) = ss (ss μ 20 (σ 1 (y + 1) &&& 3).toNatClampNeg (μ 20 (σ 1 (y + 1) >>> ((2 : Int32) &&& 31)).toNatClampNeg)) 16 8 (nI (y + ln (σ 1 y))) := by
      have eo : m_op μ y = σ 1 (y + 1) := by unfold m_op; rw [h17, if_neg (by rw [k]; decide)]
      unfold m_chg
      rw [eo, h17, k, if_neg (by decide), if_neg (by decide), if_pos rfl]
      unfold m_goOn
      rw [if_neg (by decide), if_neg (by decide), if_neg (by decide), if_neg (by decide), if_neg (by decide)]
    rw [eE, eM]
    refine ⟨⟨h1, h2, hp, hH, hL, ?_, h9, hD⟩, fun hz => ⟨hst, hnx⟩⟩
    show upd (μ 20) _ _ = upd (σ 10) _ _
    rw [h20]
  · have eE : hx_E (ss σ 0 14 (σ 0 14 + 1)) (σ 1 y) (σ 1 (y + 1)) (tgI (σ 1) y) nx (nI (y + 2)) = ss (ss σ 0 14 (σ 0 14 + 1)) 0 13 (tgI (σ 1) y) := by simp [hx_E, k]
    have eM : m_goOn (m_chg μ y) y (μ 17 y) (nI (y + ln (μ 17 y))) = ss μ 16 8 (tgI (σ 1) y) := by simp [m_goOn, m_chg, h17, k]
    rw [eE, eM]
    exact ⟨⟨h1, h2, hp, hH, hL, h20, h9, hD⟩, fun hz => ⟨hst, htg⟩⟩
  · have hb := (hO.2.2.2 k).1
    have e3 : σ 1 (y + 1) &&& 3 = σ 1 (y + 1) := by
      obtain ⟨j, hj, ej⟩ := nI_of2 (n := 3) rfl hb.1 hb.2
      rw [ej]
      exact (show ∀ j, j < 4 → nI j &&& 3 = nI j by decide +kernel) j (by omega)
    by_cases c : σ 10 (σ 1 (y + 1)).toNatClampNeg = 0
    · have eE : hx_E (ss σ 0 14 (σ 0 14 + 1)) (σ 1 y) (σ 1 (y + 1)) (tgI (σ 1) y) nx (nI (y + 2)) = ss (ss σ 0 14 (σ 0 14 + 1)) 0 13 nx := by
        unfold hx_E
        rw [e3, k, if_neg (by decide), if_neg (by decide), if_neg (by decide), if_pos rfl, if_pos (show (ss σ 0 14 (σ 0 14 + 1)) 10 (σ 1 (y + 1)).toNatClampNeg = 0 from c)]
      have eM : m_goOn (m_chg μ y) y (μ 17 y) (nI (y + ln (μ 17 y))) = ss μ 16 8 (nI (y + ln (σ 1 y))) := by simp [m_goOn, m_chg, h17, h20, k, c]
      rw [eE, eM]
      exact ⟨⟨h1, h2, hp, hH, hL, h20, h9, hD⟩, fun hz => ⟨hst, hnx⟩⟩
    · have eE : hx_E (ss σ 0 14 (σ 0 14 + 1)) (σ 1 y) (σ 1 (y + 1)) (tgI (σ 1) y) nx (nI (y + 2)) = ss (ss σ 0 14 (σ 0 14 + 1)) 0 13 (tgI (σ 1) y) := by
        unfold hx_E
        rw [e3, k, if_neg (by decide), if_neg (by decide), if_neg (by decide), if_pos rfl, if_neg (show ¬ (ss σ 0 14 (σ 0 14 + 1)) 10 (σ 1 (y + 1)).toNatClampNeg = 0 from c)]
      have eM : m_goOn (m_chg μ y) y (μ 17 y) (nI (y + ln (μ 17 y))) = ss μ 16 8 (tgI (σ 1) y) := by simp [m_goOn, m_chg, h17, h20, k, c]
      rw [eE, eM]
      exact ⟨⟨h1, h2, hp, hH, hL, h20, h9, hD⟩, fun hz => ⟨hst, htg⟩⟩
  · obtain ⟨d, hd, d1, d2, d3⟩ := id hst
    have eE : hx_E (ss σ 0 14 (σ 0 14 + 1)) (σ 1 y) (σ 1 (y + 1)) (tgI (σ 1) y) nx (nI (y + 2)) = f_enter (ss σ 0 14 (σ 0 14 + 1)) nx (tgI (σ 1) y) := by simp [hx_E, k]
    rw [eE]
    by_cases c : d = 8
    · have e8 : σ 0 11 = 8 := by rw [d1, c]; rfl
      have e8m : μ 16 7 = 8 := by rw [d2, c]; rfl
      have eM : m_goOn (m_chg μ y) y (μ 17 y) (nI (y + ln (μ 17 y))) = ss μ 16 9 3 := by simp [m_goOn, m_chg, h17, k, e8m]
      have eF : f_enter (ss σ 0 14 (σ 0 14 + 1)) nx (tgI (σ 1) y) = ss (ss σ 0 14 (σ 0 14 + 1)) 0 15 3 := by unfold f_enter; rw [if_pos (show (ss σ 0 14 (σ 0 14 + 1)) 0 11 = 8 from e8)]
      rw [eM, eF]
      exact ⟨⟨h1, h2, hp, hH, hL, h20, rfl, hD⟩, fun hz => absurd hz (show ¬ (3 : Int32) = 0 by decide)⟩
    · have n8 : ¬ σ 0 11 = 8 := fun q => c ((nI_eq (b := 8) (by omega) (by decide)).mp (d1.symm.trans q))
      have n8m : ¬ μ 16 7 = 8 := fun q => c ((nI_eq (b := 8) (by omega) (by decide)).mp (d2.symm.trans q))
      have eM : m_goOn (m_chg μ y) y (μ 17 y) (nI (y + ln (μ 17 y))) = ss (ss (ss μ 23 d (nI (y + ln (σ 1 y)))) 16 7 (nI (d + 1))) 16 8 (tgI (σ 1) y) := by
        simp [m_goOn, m_chg, h17, k, n8m]
        rw [d2, nI_clamp (by omega), nI_1]
      have eF : f_enter (ss σ 0 14 (σ 0 14 + 1)) nx (tgI (σ 1) y) = ss (ss (ss (ss σ 0 14 (σ 0 14 + 1)) 12 d nx) 0 11 (nI (d + 1))) 0 13 (tgI (σ 1) y) := by
        unfold f_enter
        rw [if_neg (show ¬ (ss σ 0 14 (σ 0 14 + 1)) 0 11 = 8 from n8), show (ss σ 0 14 (σ 0 14 + 1)) 0 11 = nI d from d1, nI_clamp (by omega), nI_1]
      rw [eM, eF]
      refine ⟨⟨h1, h2, hp, hH, hL, h20, h9, hD⟩, fun hz => ⟨⟨d + 1, by omega, rfl, rfl, fun i hi => ?_⟩, htg⟩⟩
      show hx_CorO σ N (upd (σ 12) d nx i) (upd (μ 23) d (nI (y + ln (σ 1 y))) i)
      by_cases q : i = d
      · rw [q, upd_s, upd_s]; exact hnx
      · rw [upd_n _ _ q, upd_n _ _ q]; exact d3 i (by omega)
  · obtain ⟨d, hd, d1, d2, d3⟩ := id hst
    have eE : hx_E (ss σ 0 14 (σ 0 14 + 1)) (σ 1 y) (σ 1 (y + 1)) (tgI (σ 1) y) nx (nI (y + 2)) = f_leave (ss σ 0 14 (σ 0 14 + 1)) := by simp [hx_E, k]
    rw [eE]
    by_cases c : d = 0
    · have e8 : σ 0 11 = 0 := by rw [d1, c]; rfl
      have e8m : μ 16 7 = 0 := by rw [d2, c]; rfl
      have eM : m_goOn (m_chg μ y) y (μ 17 y) (nI (y + ln (μ 17 y))) = ss μ 16 9 1 := by simp [m_goOn, m_chg, h17, k, e8m]
      have eF : f_leave (ss σ 0 14 (σ 0 14 + 1)) = ss (ss σ 0 14 (σ 0 14 + 1)) 0 15 1 := by unfold f_leave; rw [if_pos (show (ss σ 0 14 (σ 0 14 + 1)) 0 11 = 0 from e8)]
      rw [eM, eF]
      exact ⟨⟨h1, h2, hp, hH, hL, h20, rfl, hD⟩, fun hz => absurd hz (show ¬ (1 : Int32) = 0 by decide)⟩
    · obtain ⟨d, rfl⟩ : ∃ q, d = q + 1 := ⟨d - 1, by omega⟩
      have n8 : ¬ σ 0 11 = 0 := by rw [d1]; exact nI_ne0 (by omega) (by omega)
      have n8m : ¬ μ 16 7 = 0 := by rw [d2]; exact nI_ne0 (by omega) (by omega)
      have eM : m_goOn (m_chg μ y) y (μ 17 y) (nI (y + ln (μ 17 y))) = ss (ss μ 16 7 (nI d)) 16 8 (μ 23 d) := by
        simp [m_goOn, m_chg, h17, k, n8m]
        rw [d2, nI_pred, nI_clamp (by omega)]
      have eF : f_leave (ss σ 0 14 (σ 0 14 + 1)) = ss (ss (ss σ 0 14 (σ 0 14 + 1)) 0 11 (nI d)) 0 13 (σ 12 d) := by
        unfold f_leave
        rw [if_neg (show ¬ (ss σ 0 14 (σ 0 14 + 1)) 0 11 = 0 from n8), show (ss σ 0 14 (σ 0 14 + 1)) 0 11 = nI (d + 1) from d1, nI_pred, nI_clamp (by omega)]
        rfl
      rw [eM, eF]
      exact ⟨⟨h1, h2, hp, hH, hL, h20, h9, hD⟩, fun hz => ⟨⟨d, by omega, rfl, rfl, fun i hi => d3 i (by omega)⟩, d3 d (by omega)⟩⟩
  · have L : ln (σ 1 y) = 2 := by rw [k]; rfl
    have eE : hx_E (ss σ 0 14 (σ 0 14 + 1)) (σ 1 y) (σ 1 (y + 1)) (tgI (σ 1) y) nx (nI (y + 2)) = ss (ss (ss σ 0 14 (σ 0 14 + 1)) 10 (σ 1 (y + 1) &&& 3).toNatClampNeg (nI (y + 2))) 0 13 nx := by simp [hx_E, f_change, k]
    have eM : m_goOn (m_chg μ y) y (μ 17 y) (nI (y + ln (μ 17 y))) = ss (ss μ 20 (σ 1 (y + 1) &&& 3).toNatClampNeg (nI (y + 2))) 16 8 (nI (y + ln (σ 1 y))) := by simp [m_goOn, m_chg, m_op, ln, h17, k]
    rw [eE, eM]
    refine ⟨⟨h1, h2, hp, hH, hL, ?_, h9, hD⟩, fun hz => ⟨hst, hnx⟩⟩
    show upd (μ 20) _ _ = upd (σ 10) _ _
    rw [h20]
end STEP2
end
section
/-! ===== running: from the start to the end ===== -/
section STEP3
variable {N : Nat} {σ μ : SG}
theorem loop1 {n : Nat} (h : σ 0 15 = 0) : f_loop (n + 1) σ = f_loop n (f_tick σ) := by show (if _ then _ else _) = _; rw [if_pos h]
theorem loop_end (n : Nat) (h : ¬ σ 0 15 = 0) : f_loop n σ = σ := by
  cases n with
  | zero => rfl
  | succ n => show (if _ then _ else _) = _; rw [if_neg h]
theorem mloop_end (n : Nat) (h : ¬ μ 16 9 = 0) : m_loop n μ = μ := by
  cases n with
  | zero => rfl
  | succ n =>
    show (if _ then _ else (if _ then _ else _)) = _
    rw [if_neg h]
    split <;> rfl
theorem tick_hi (hd : ¬ σ 0 14 = 200) {w : Nat} (hw : w < 1000) (hp : σ 0 13 = nI (512 + w)) : f_tick σ = f_exec σ := by
  unfold f_tick
  rw [if_neg hd, hp, if_pos (show (512 : Int32) ≤ nI (512 + w) from nI_le (a := 512) (by omega) (by omega))]
theorem isStart_eq (hI : hx_InvN N σ μ) (x : Int32) : f_isStart σ x = m_starts μ x := by
  unfold f_isStart m_starts
  rw [hI.1.2.1, hI.1.2.2, hI.2.1.2]
theorem mtick_at (hI : hx_InvN N σ μ) {y : Nat} (hy : y < N) (hs : ¬ σ 3 y = 0) (hat : μ 16 8 = nI y) : m_tick μ = ss (m_goOn (m_chg (m_cnt μ y) y) y ((m_cnt μ y) 17 y) (nI (y + ln ((m_cnt μ y) 17 y)))) 16 10 ((m_cnt μ y) 16 10 + 1) := by
  have hN := hI.1.1
  unfold m_tick m_exec
  have h1 : m_starts μ (nI y) = 1 := by
    rw [mstarts_nI (by omega) hN hI.1.2.2]
    exact if_pos ⟨hy, by rw [hI.2.1.2]; exact hs⟩
  rw [hat, h1, if_neg (by decide), nI_clamp (by omega), cnt_o _ _ 17 (by decide), cnt_o _ _ 16 (by decide)]
theorem far_num : ∀ h, h < 4 → (3 : Int32) * 256 + nI (16 * h) - 256 = nI (512 + 16 * h) := by decide +kernel
theorem and3 : ∀ h, h < 4 → nI h &&& 3 = nI h := by decide +kernel
/-- both are at one address -/
theorem bigst1 (hI : hx_InvN N σ μ) (hst : hx_Stk N σ μ) (he : σ 0 15 = 0) (hd : ¬ σ 0 14 = 200) (hc : hx_C1 (σ 1) (σ 3) (σ 7) N (σ 0 13) (μ 16 8)) : ∃ k, 1 ≤ k ∧ k ≤ 3 ∧ ∃ σ2, (∀ n, f_loop (n + k) σ = f_loop n σ2) ∧ hx_RR N σ2 (m_tick μ) := by
  obtain ⟨hpc, hlt, hin⟩ := hc
  have hN := hI.1.1
  by_cases hm : m_starts μ (μ 16 8) = 0
  · refine ⟨1, Nat.le_refl 1, by decide, ss σ 0 15 2, fun n => ?_, ?_⟩
    · rw [loop1 he]
      unfold f_tick
      rw [if_neg hd, hpc, if_neg (by grind), isStart_eq hI, if_pos hm]
    · unfold m_tick
      rw [if_pos hm]
      obtain ⟨h1, h2, hp, hH, hL, h20, h9, h10⟩ := hI
      exact ⟨⟨h1, h2, hp, hH, hL, h20, rfl, h10⟩, fun hz => absurd hz (show ¬ (2 : Int32) = 0 by decide)⟩
  · obtain ⟨y, hy, hat, hsm⟩ := mstarts_ex hN hI.1.2.2 hm
    have hs : ¬ σ 3 y = 0 := by rw [← hI.2.1.2]; exact hsm
    have hpy : σ 0 13 = nI y := hpc.trans hat
    have hlo : ¬ (512 : Int32) ≤ σ 0 13 := by rw [hpc]; grind
    have hst1 : ¬ f_isStart σ (σ 0 13) = 0 := by rw [isStart_eq hI, hpc]; exact hm
    have ht : f_tick σ = f_exec σ := by unfold f_tick; rw [if_neg hd, if_neg hlo, if_neg hst1]
    rw [mtick_at hI hy hs hat]
    by_cases hk : ∃ h, h < 4 ∧ σ 7 h = nI y
    · obtain ⟨h, hh, e7⟩ := hk
      have A := Hk_at hI.2.2.2.1 hN hh e7 (by omega)
      obtain ⟨m, X, W, H⟩ := A.2.2
      obtain ⟨⟨m1, x0, w0, -, -⟩, -, -, ⟨r1, r2⟩, q1, q2, q3⟩ := id H
      have hy3 := A.1.1
      have f0 : f_fetch σ (nI y) = 9 := by rw [fetch_C (by omega)]; exact q1
      have e1 : f_exec σ = ss σ 0 13 (nI (512 + 16 * h)) := by
        unfold f_exec
        rw [hpy, f0, if_pos rfl]
        unfold f_fa
        rw [nI_1, fetch_C (by omega), nI_1, fetch_C (by omega), q2, show y + 1 + 1 = y + 2 by omega, q3, far_num h hh]
      have f1 : f_fetch (ss σ 0 13 (nI (512 + 16 * h))) (nI (512 + 16 * h)) = 10 := by rw [fetch_A (by omega)]; exact r1
      have f2 : f_fetch (ss σ 0 13 (nI (512 + 16 * h))) (nI (512 + 16 * h) + 1) = nI h := by rw [nI_1, show 512 + 16 * h + 1 = 512 + (16 * h + 1) by omega, fetch_A (by omega)]; exact r2
      have e2 : f_exec (ss σ 0 13 (nI (512 + 16 * h))) = ss (ss (ss σ 0 13 (nI (512 + 16 * h))) 9 h (σ 9 h + 1)) 0 13 (nI (512 + W 0)) := by
        unfold f_exec
        rw [show (ss σ 0 13 (nI (512 + 16 * h))) 0 13 = nI (512 + 16 * h) from rfl, f1, f2, and3 h hh, nI_clamp (by omega), if_neg (by decide), if_pos rfl, w0, show nI (512 + 16 * h) + 2 = nI (512 + (16 * h + 2)) from nI_add _ 2]
        rfl
      have t2 : f_tick (ss σ 0 13 (nI (512 + 16 * h))) = f_exec (ss σ 0 13 (nI (512 + 16 * h))) := tick_hi (σ := ss σ 0 13 (nI (512 + 16 * h))) hd (w := 16 * h) (by omega) rfl
      have n21 : ¬ μ 21 y = 0 := fun z => (hI.2.2.2.2.1.1 y (by omega)).mp z h hh e7
      have ec : m_cnt μ y = ss μ 22 y (μ 22 y + 1) := by unfold m_cnt; rw [if_neg n21]
      have hI2 : hx_InvN N (ss (ss (ss σ 0 13 (nI (512 + 16 * h))) 9 h (σ 9 h + 1)) 0 13 (nI (512 + W 0))) (m_cnt μ y) := by
        rw [ec]
        obtain ⟨h1, h2, hp, hH, hL, h20, h9, h10⟩ := hI
        refine ⟨h1, h2, hp, hH, ⟨hL.1, fun g b hg hb e => ?_, hL.2.2⟩, h20, h9, h10⟩
        show upd (σ 9) h (σ 9 h + 1) g = upd (μ 22) y (μ 22 y + 1) b
        have e' : σ 7 g = nI b := e
        by_cases q : g = h
        · subst q
          have : b = y := (nI_eq (by omega) (by omega)).mp (e'.symm.trans e7)
          subst this
          rw [upd_s, upd_s, hL.2.1 g b hg hb e']
        · have nb : b ≠ y := fun z => by
            subst z
            have l := hl_in (σ 1) b
            have := hH.2.1 g h b b hg hh q e' e7 hb hb
            omega
          rw [upd_n _ _ q, upd_n _ _ nb]
          exact hL.2.1 g b hg hb e'
      have hst2 : hx_Stk N (ss (ss (ss σ 0 13 (nI (512 + 16 * h))) 9 h (σ 9 h + 1)) 0 13 (nI (512 + W 0))) (m_cnt μ y) := by rw [ec]; exact hst
      have ht3 : f_tick (ss (ss (ss σ 0 13 (nI (512 + 16 * h))) 9 h (σ 9 h + 1)) 0 13 (nI (512 + W 0))) = f_exec (ss (ss (ss σ 0 13 (nI (512 + 16 * h))) 9 h (σ 9 h + 1)) 0 13 (nI (512 + W 0))) := tick_hi (σ := ss (ss (ss σ 0 13 (nI (512 + 16 * h))) 9 h (σ 9 h + 1)) 0 13 (nI (512 + W 0))) hd (w := W 0) (by omega) rfl
      have eB := exec_B hI2 (i := 0) hh H (by omega) rfl
      rw [x0] at eB
      have hr := (H.2.1 0 (by omega)).2.1
      rw [x0] at hr
      have hnx : hx_CorO (ss (ss (ss σ 0 13 (nI (512 + 16 * h))) 9 h (σ 9 h + 1)) 0 13 (nI (512 + W 0))) N (nI (512 + W 1)) (nI (y + ln (σ 1 y))) := Or.inr ⟨h, y, m, X, W, 1, ⟨hh, by omega, e7⟩, H, ⟨by decide, m1⟩, rfl, by rw [← hr.1]⟩
      refine ⟨3, by decide, Nat.le_refl 3, _, fun n => ?_, E_RR hI2 hst2 hy hs hnx⟩
      rw [show n + 3 = n + 1 + 1 + 1 by omega, loop1 he, ht, e1, loop1 (σ := ss σ 0 13 (nI (512 + 16 * h))) he, t2, e2, loop1 (σ := ss (ss (ss σ 0 13 (nI (512 + 16 * h))) 9 h (σ 9 h + 1)) 0 13 (nI (512 + W 0))) he, ht3, eB]
    · have ho : ∀ h a, h < 4 → a < 64 → σ 7 h = nI a → ¬ (a ≤ y ∧ y < a + hl (σ 1) a) := by
        intro h a hh ha e q
        rcases Nat.lt_or_ge a y with z | z
        · exact hin y hy hs hat h a hh ha e ⟨z, q.2⟩
        · exact hk ⟨h, hh, by rw [e, show a = y by omega]⟩
      have z21 : μ 21 y = 0 := (hI.2.2.2.2.1.1 y (by omega)).mpr (fun h hh e => hk ⟨h, hh, e⟩)
      have ec : m_cnt μ y = μ := by unfold m_cnt; rw [if_pos z21]
      rw [ec]
      refine ⟨1, Nat.le_refl 1, by decide, _, fun n => ?_, E_RR hI hst hy hs (out_next hI hy hs ho)⟩
      rw [loop1 he, ht, exec_A hI hy hs hpy ho]
theorem bigst (hR : hx_RR N σ μ) (he : σ 0 15 = 0) (hd : ¬ σ 0 14 = 200) : ∃ k, 1 ≤ k ∧ k ≤ 4 ∧ ∃ σ2, (∀ n, f_loop (n + k) σ = f_loop n σ2) ∧ hx_RR N σ2 (m_tick μ) := by
  obtain ⟨hI, hq⟩ := hR
  obtain ⟨hst, hc⟩ := hq he
  have hN := hI.1.1
  rcases hc with hc | ⟨h, a, m, X, W, i, ⟨hh, ha, e7⟩, H, ⟨hi0, him⟩, hpc, hat⟩
  · obtain ⟨k, k1, k2, σ2, r1, r2⟩ := bigst1 hI hst he hd hc
    exact ⟨k, k1, by omega, σ2, r1, r2⟩
  · have hw := HD_w H him
    have ht : f_tick σ = f_exec σ := tick_hi hd (w := W i) (by omega) hpc
    rcases Nat.lt_or_ge i m with q | q
    · have hr := H.2.1 i q
      have g0 := HD_mono H i 0 (by omega)
      rw [show 0 + i = i by omega, H.1.2.1] at g0
      have g1 := HD_mono H 1 i (by omega)
      have hx := HD_w H (i := i + 1) (by omega)
      have nk : ∀ g, g < 4 → ¬ σ 7 g = nI (X i) := by
        intro g hg e
        by_cases z : g = h
        · subst z
          have := (nI_eq (by omega) (by have := hr.1.1; omega)).mp (e7.symm.trans e)
          omega
        · have l := hl_in (σ 1) (X i)
          have := hI.2.2.2.1.2.1 g h (X i) a hg hh z e e7 (by have := hr.1.1; omega) ha
          omega
      have z21 : μ 21 (X i) = 0 := (hI.2.2.2.2.1.1 (X i) (by have := hr.1.1; omega)).mpr nk
      have ec : m_cnt μ (X i) = μ := by unfold m_cnt; rw [if_pos z21]
      rw [mtick_at hI hr.1.1 hr.1.2 hat, ec]
      have hnx : hx_CorO σ N (nI (512 + W (i + 1))) (nI (X i + ln (σ 1 (X i)))) := Or.inr ⟨h, a, m, X, W, i + 1, ⟨hh, ha, e7⟩, H, ⟨by omega, by omega⟩, rfl, by rw [hr.2.1.1]⟩
      refine ⟨1, Nat.le_refl 1, by decide, _, fun n => ?_, E_RR hI hst hr.1.1 hr.1.2 hnx⟩
      rw [loop1 he, ht, exec_B hI hh H q hpc]
    · obtain rfl : i = m := by omega
      obtain ⟨⟨m1, x0, w0, xm, wm⟩, -, ⟨n9, na⟩, -⟩ := id H
      have f0 : f_fetch σ (nI (512 + W i)) = 9 := by rw [fetch_A (by omega)]; exact n9
      have e1 : f_exec σ = ss σ 0 13 (nI (X i)) := by
        unfold f_exec
        rw [hpc, f0, if_pos rfl, nI_1, show 512 + W i + 1 = 512 + (W i + 1) by omega, fa_A (by omega), na]
      have A := Hk_at hI.2.2.2.1 hN hh e7 ha
      have l := hl_in (σ 1) a
      have hc1 : hx_C1 ((ss σ 0 13 (nI (X i))) 1) ((ss σ 0 13 (nI (X i))) 3) ((ss σ 0 13 (nI (X i))) 7) N ((ss σ 0 13 (nI (X i))) 0 13) (μ 16 8) := by
        refine ⟨hat.symm, by rw [hat]; exact nI_lt (b := 512) (by omega) (by decide), fun y hy hs ey g b hg hb eg hin => ?_⟩
        have ey2 : X i = y := (nI_eq (by omega) (by omega)).mp (hat.symm.trans ey)
        by_cases z : g = h
        · subst z
          have : b = a := (nI_eq (by omega) (by omega)).mp ((show σ 7 g = nI b from eg).symm.trans e7)
          subst this
          have hin2 : y < b + hl (σ 1) b := hin.2
          omega
        · have l2 := hl_in (σ 1) b
          have := hI.2.2.2.1.2.1 g h b a hg hh z eg e7 hb ha
          have hin2 : y < b + hl (σ 1) b := hin.2
          omega
      obtain ⟨k, k1, k2, σ2, r1, r2⟩ := bigst1 (σ := ss σ 0 13 (nI (X i))) hI hst he hd hc1
      refine ⟨k + 1, by omega, by omega, σ2, fun n => ?_, r2⟩
      rw [show n + (k + 1) = n + k + 1 by omega, loop1 he, ht, e1, r1]
theorem fin_tired (hI : hx_InvN N σ μ) (he : σ 0 15 = 0) (hd : σ 0 14 = 200) (n : Nat) : hx_Inv (f_loop (n + 1) σ) (m_fin μ) := by
  have em : m_fin μ = ss μ 16 9 4 := by unfold m_fin; rw [if_pos (by rw [hI.2.2.2.2.2.2.1]; exact he)]
  have et : f_tick σ = ss σ 0 15 4 := by unfold f_tick; rw [if_pos hd]
  rw [loop1 he, et, loop_end n (show ¬ (4 : Int32) = 0 by decide), em]
  obtain ⟨h1, h2, hp, hH, hL, h20, h9, h10⟩ := hI
  exact ⟨N, h1, h2, hp, hH, hL, h20, rfl, h10⟩
theorem fin_end (hI : hx_InvN N σ μ) (he : ¬ σ 0 15 = 0) (n j : Nat) : hx_Inv (f_loop n σ) (m_fin (m_loop j μ)) := by
  have hm : ¬ μ 16 9 = 0 := by rw [hI.2.2.2.2.2.2.1]; exact he
  rw [loop_end n he, mloop_end j hm]
  unfold m_fin
  rw [if_neg hm]
  exact ⟨N, hI⟩
theorem sim : ∀ (j e : Nat) (σ μ : SG), hx_RR N σ μ → σ 0 14 = nI e → e ≤ 200 → (200 ≤ e + j ∨ ¬ σ 0 15 = 0) → ∀ n, 4 * j + 1 ≤ n → hx_Inv (f_loop n σ) (m_fin (m_loop j μ)) := by
  intro j
  induction j with
  | zero =>
    intro e σ μ hR hE he hq n hn
    by_cases c : σ 0 15 = 0
    · obtain ⟨n, rfl⟩ : ∃ q, n = q + 1 := ⟨n - 1, by omega⟩
      refine fin_tired hR.1 c ?_ n
      rw [hE, show e = 200 by rcases hq with q | q; omega; exact absurd c q]
      rfl
    · exact fin_end hR.1 c n 0
  | succ j ih =>
    intro e σ μ hR hE he hq n hn
    by_cases c : σ 0 15 = 0
    · have hm9 : μ 16 9 = 0 := by rw [hR.1.2.2.2.2.2.2.1]; exact c
      have hm10 : μ 16 10 = nI e := by rw [hR.1.2.2.2.2.2.2.2]; exact hE
      by_cases c2 : e = 200
      · obtain ⟨n, rfl⟩ : ∃ q, n = q + 1 := ⟨n - 1, by omega⟩
        have e1 : m_loop (j + 1) μ = μ := by
          show (if _ then _ else _) = _
          rw [hm10, c2, if_pos (show (200 : Int32) ≤ nI 200 by decide)]
        rw [e1]
        exact fin_tired hR.1 c (by rw [hE, c2]; rfl) n
      · have hd : ¬ σ 0 14 = 200 := fun q => c2 ((nI_eq (b := 200) (by omega) (by decide)).mp (hE.symm.trans q))
        obtain ⟨k, k1, k2, σ2, r1, r2⟩ := bigst hR c hd
        have e1 : m_loop (j + 1) μ = m_loop j (m_tick μ) := by
          show (if _ then _ else _) = _
          rw [hm10, if_neg (show ¬ (200 : Int32) ≤ nI e from nI_ge (b := 200) (by omega) (by decide)), if_pos hm9]
        rw [e1, show n = n - k + k by omega, r1]
        have hE2 : σ2 0 14 = (m_tick μ) 16 10 := r2.1.2.2.2.2.2.2.2.symm
        have hF2 : σ2 0 15 = (m_tick μ) 16 9 := r2.1.2.2.2.2.2.2.1.symm
        by_cases c3 : m_starts μ (μ 16 8) = 0
        · have et : m_tick μ = ss μ 16 9 2 := by unfold m_tick; rw [if_pos c3]
          refine ih e σ2 _ r2 ?_ he (Or.inr ?_) (n - k) (by omega)
          · rw [hE2, et]; exact hm10
          · rw [hF2, et]; exact (show ¬ (2 : Int32) = 0 by decide)
        · have et : (m_tick μ) 16 10 = nI (e + 1) := by
            unfold m_tick
            rw [if_neg c3]
            show μ 16 10 + 1 = _
            rw [hm10, nI_1]
          refine ih (e + 1) σ2 _ r2 (hE2.trans et) (by omega) (Or.inl ?_) (n - k) (by omega)
          rcases hq with q | q
          · omega
          · exact absurd c q
    · exact fin_end hR.1 c n (j + 1)
theorem en_spec (σ : SG) (x : Int32) (k : Nat) : (∃ h, h < k ∧ (¬ σ 7 h < 0 ∧ ¬ x ≤ σ 7 h ∧ ¬ σ 7 h + σ 8 h ≤ x) ∧ ¬ f_isStart σ x = 0 ∧ enN σ x k = σ 4 x.toNatClampNeg) ∨ ((∀ h, h < k → f_isStart σ x = 0 ∨ σ 7 h < 0 ∨ x ≤ σ 7 h ∨ σ 7 h + σ 8 h ≤ x) ∧ enN σ x k = x) := by
  induction k with
  | zero => exact Or.inr ⟨fun h hh => absurd hh (Nat.not_lt_zero h), rfl⟩
  | succ k ih =>
    have key : ∀ (P : Prop), (enN σ x (k + 1) = enN σ x k) → (f_isStart σ x = 0 ∨ σ 7 k < 0 ∨ x ≤ σ 7 k ∨ σ 7 k + σ 8 k ≤ x) → ((∃ h, h < k + 1 ∧ (¬ σ 7 h < 0 ∧ ¬ x ≤ σ 7 h ∧ ¬ σ 7 h + σ 8 h ≤ x) ∧ ¬ f_isStart σ x = 0 ∧ enN σ x (k + 1) = σ 4 x.toNatClampNeg) ∨ ((∀ h, h < k + 1 → f_isStart σ x = 0 ∨ σ 7 h < 0 ∨ x ≤ σ 7 h ∨ σ 7 h + σ 8 h ≤ x) ∧ enN σ x (k + 1) = x)) := by
      intro _ e hq
      rw [e]
      rcases ih with ⟨h, a, b, c, d⟩ | ⟨a, b⟩
      · exact Or.inl ⟨h, by omega, b, c, d⟩
      · refine Or.inr ⟨fun h hh => ?_, b⟩
        rcases Nat.lt_succ_iff_lt_or_eq.mp hh with z | z
        · exact a h z
        · rw [z]; exact hq
    by_cases c1 : σ 7 k < 0
    · exact key True (by show (if _ then _ else _) = _; rw [if_pos c1]) (Or.inr (Or.inl c1))
    by_cases c2 : x ≤ σ 7 k
    · exact key True (by show (if _ then _ else _) = _; rw [if_neg c1, if_pos c2]) (Or.inr (Or.inr (Or.inl c2)))
    by_cases c3 : σ 7 k + σ 8 k ≤ x
    · exact key True (by show (if _ then _ else _) = _; rw [if_neg c1, if_neg c2, if_pos c3]) (Or.inr (Or.inr (Or.inr c3)))
    by_cases c4 : f_isStart σ x = 0
    · exact key True (by show (if _ then _ else _) = _; rw [if_neg c1, if_neg c2, if_neg c3, if_pos c4]) (Or.inl c4)
    · refine Or.inl ⟨k, by omega, ⟨c1, c2, c3⟩, c4, ?_⟩
      show (if _ then _ else _) = _
      rw [if_neg c1, if_neg c2, if_neg c3, if_neg c4]
theorem start_RR (hI : hx_InvN N σ μ) {a : Nat} (ha : a < 64) : hx_RR N (f_start σ (nI a)) (m_start μ (nI a)) := by
  obtain ⟨h1, h2, hp, hH, hL, h20, h9, h10⟩ := id hI
  have hN := h1.1
  refine ⟨⟨h1, h2, hp, hH, hL, h20, rfl, rfl⟩, fun _ => ⟨⟨0, by decide, rfl, rfl, fun i hi => absurd hi (Nat.not_lt_zero i)⟩, ?_⟩⟩
  show hx_CorO σ N (enN σ (nI a) 4) (nI a)
  rcases en_spec σ (nI a) 4 with ⟨h, hh, ⟨q1, q2, q3⟩, q4, q5⟩ | ⟨q1, q2⟩
  · rw [q5, nI_clamp (by omega)]
    rcases hH.1 h hh with z | ⟨b, e7, A⟩
    · exact absurd (by rw [z]; decide) q1
    · have hb3 := A.1.1
      have l := hl_in (σ 1) b
      rw [isStart_nI (by omega) hN h1.2.1] at q4
      have hst : a < N ∧ ¬ σ 3 a = 0 := Decidable.byContradiction (fun z => q4 (by rw [if_neg z]))
      rw [e7] at q2 q3
      rw [A.1.2.2, nI_add] at q3
      have b1 : b < a := nI_3le (k := b) (by omega) a (by omega) q2
      have b2 : a < b + hl (σ 1) b := nI_3le (k := a) (by omega) _ (by omega) q3
      obtain ⟨m, X, W, H⟩ := A.2.2
      obtain ⟨i, hi, ei⟩ := in_head hp.2.1 H hst.1 hst.2 (by omega) b2
      have i0 : 0 < i := by
        rcases Nat.lt_or_ge 0 i with z | z
        · exact z
        · rw [show i = 0 by omega, H.1.2.1] at ei; omega
      refine Or.inr ⟨h, b, m, X, W, i, ⟨hh, by omega, e7⟩, H, ⟨i0, by omega⟩, ?_, by rw [ei]⟩
      rw [ei]
      exact (H.2.1 i hi).2.2.2 i0
  · rw [q2]
    refine Or.inl ⟨rfl, nI_lt (b := 512) (by omega) (by decide), fun y hy hs ey h b hh hb e7 hin => ?_⟩
    have ey2 : a = y := (nI_eq (by omega) (by omega)).mp ey
    subst ey2
    have A := Hk_at hH hN hh e7 hb
    have l := hl_in (σ 1) b
    rcases q1 h hh with z | z | z | z
    · rw [isStart_nI (by omega) hN h1.2.1, if_pos ⟨hy, hs⟩] at z
      exact absurd z (by decide)
    · rw [e7] at z
      exact nI_pos (by omega) z
    · rw [e7] at z
      have := (nI_leI (by omega) (by omega)).mp z
      omega
    · rw [e7, A.1.2.2, nI_add] at z
      have := (nI_leI (by omega) (by omega)).mp z
      omega
end STEP3
theorem opn_of {P S : Nat → Int32} {N : Nat} (h : hx_Ops P S N) : Opn P S N := by
  intro x hx hs
  have o := h x hx hs
  refine ⟨fun k => ?_, fun k => ?_⟩
  · have hb := o.2.1 k
    obtain ⟨j, hj, ej⟩ := nI_of2 (n := 15) rfl hb.1 hb.2
    rw [ej]
    exact (show ∀ j, j < 16 → ¬ (nI j >>> ((2 : Int32) &&& 31) < 0 ∨ 4 ≤ (nI j >>> ((2 : Int32) &&& 31)).toNatClampNeg) by decide +kernel) j (by omega)
  · have hb := (o.2.2.2 k).1
    exact vp_of 4 rfl hb.1 (by grind)
theorem st_run {σ μ : SG} (h : hx_Inv σ μ) (v : Int32) : dh_Stp k_H_run k_M_run [.inl v] hx_Inv σ μ := by
  obtain ⟨N, h⟩ := h
  have cH1 := c_H_run σ μ v (inv_len h).1
  have hm : N ≤ 64 ∧ μ 16 2 = nI N ∧ Chn (μ 17) (μ 18) N ∧ Gap (μ 17) (μ 18) N ∧ Opn (μ 17) (μ 18) N := by
    rw [h.2.1.1, h.2.1.2]
    exact ⟨h.1.1, h.1.2.2, h.2.2.1.1, h.2.2.1.2.1, opn_of h.2.2.1.2.2⟩
  by_cases c1 : v < 0
  · rw [if_pos c1, if_pos c1] at cH1
    have cM1 := c_M_run σ μ v N hm
    rw [if_pos c1, if_pos c1] at cM1
    exact ⟨_, _, _, cH1, cM1, ⟨N, h⟩⟩
  · by_cases c2 : v < 64
    · have c3 : v ≤ 63 := by grind
      rw [if_neg c1, if_neg c1, if_pos c2, if_pos c2] at cH1
      have cM1 := c_M_run (f_loop 1000 (f_start σ v)) μ v N hm
      rw [if_neg c1, if_neg c1, if_pos c3, if_pos c3] at cM1
      obtain ⟨a, ha, rfl⟩ := nI_of2 (n := 63) rfl c1 c3
      have hs := sim 200 0 (f_start σ (nI a)) (m_start μ (nI a)) (start_RR h (by omega)) rfl (by decide) (Or.inl (by decide)) 1000 (by decide)
      refine ⟨_, _, _, cH1, ?_, hs⟩
      obtain ⟨N2, h2⟩ := hs
      rw [← h2.2.2.2.2.2.2.1]
      exact cM1
    · have c3 : ¬ v ≤ 63 := by grind
      rw [if_neg c1, if_neg c1, if_neg c2, if_neg c2] at cH1
      have cM1 := c_M_run σ μ v N hm
      rw [if_neg c1, if_neg c1, if_neg c3, if_neg c3] at cM1
      exact ⟨_, _, _, cH1, cM1, ⟨N, h⟩⟩
end
section
/-! ===== hooking: what the second area holds ===== -/
theorem cM_up (f : Nat → Int32) (a : Nat) (v : Int32) (n : Nat) (h : n ≤ a) : cM (upd f a v) n = cM f n := by
  induction n with
  | zero => rfl
  | succ n ih =>
    show (if upd f a v n = 0 then cM (upd f a v) n else cM (upd f a v) n + 1) = (if f n = 0 then cM f n else cM f n + 1)
    rw [ih (by omega), upd_n _ _ (by omega)]
theorem cM_set (f : Nat → Int32) {a : Nat} (n : Nat) (h : a < n) (h0 : f a = 0) : cM (upd f a 1) n = cM f n + 1 := by
  induction n with
  | zero => exact absurd h (Nat.not_lt_zero a)
  | succ n ih =>
    show (if upd f a 1 n = 0 then cM (upd f a 1) n else cM (upd f a 1) n + 1) = (if f n = 0 then cM f n else cM f n + 1) + 1
    by_cases q : n = a
    · subst q
      rw [upd_s, if_neg (by decide), if_pos h0, cM_up _ _ _ _ (Nat.le_refl n)]
    · rw [upd_n _ _ q, ih (by omega)]
      split <;> rfl
theorem cM_clr (f : Nat → Int32) {a : Nat} (n : Nat) (h : a < n) (h0 : ¬ f a = 0) : cM (upd f a 0) n + 1 = cM f n := by
  induction n with
  | zero => exact absurd h (Nat.not_lt_zero a)
  | succ n ih =>
    show (if upd f a 0 n = 0 then cM (upd f a 0) n else cM (upd f a 0) n + 1) + 1 = (if f n = 0 then cM f n else cM f n + 1)
    by_cases q : n = a
    · subst q
      rw [upd_s, if_pos rfl, if_neg h0, cM_up _ _ _ _ (Nat.le_refl n)]
    · rw [upd_n _ _ q, ← ih (by omega)]
      split <;> rfl
theorem cH_up (f : Nat → Int32) (a : Nat) (v : Int32) (n : Nat) (h : n ≤ a) : cH (upd f a v) n = cH f n := by
  induction n with
  | zero => rfl
  | succ n ih =>
    show (if upd f a v n < 0 then cH (upd f a v) n else cH (upd f a v) n + 1) = (if f n < 0 then cH f n else cH f n + 1)
    rw [ih (by omega), upd_n _ _ (by omega)]
theorem cH_set (f : Nat → Int32) {a : Nat} {v : Int32} (n : Nat) (h : a < n) (h0 : f a < 0) (hv : ¬ v < 0) : cH (upd f a v) n = cH f n + 1 := by
  induction n with
  | zero => exact absurd h (Nat.not_lt_zero a)
  | succ n ih =>
    show (if upd f a v n < 0 then cH (upd f a v) n else cH (upd f a v) n + 1) = (if f n < 0 then cH f n else cH f n + 1) + 1
    by_cases q : n = a
    · subst q
      rw [upd_s, if_neg hv, if_pos h0, cH_up _ _ _ _ (Nat.le_refl n)]
    · rw [upd_n _ _ q, ih (by omega)]
      split <;> rfl
theorem cH_clr (f : Nat → Int32) {a : Nat} (n : Nat) (h : a < n) (h0 : ¬ f a < 0) : cH (upd f a (-1)) n + 1 = cH f n := by
  induction n with
  | zero => exact absurd h (Nat.not_lt_zero a)
  | succ n ih =>
    show (if upd f a (-1) n < 0 then cH (upd f a (-1)) n else cH (upd f a (-1)) n + 1) + 1 = (if f n < 0 then cH f n else cH f n + 1)
    by_cases q : n = a
    · subst q
      rw [upd_s, if_pos (by decide), if_neg h0, cH_up _ _ _ _ (Nat.le_refl n)]
    · rw [upd_n _ _ q, ← ih (by omega)]
      split <;> rfl
theorem adr_congr {A B : Nat → Int32} {w : Nat} (h0 : A w = B w) (h1 : A (w + 1) = B (w + 1)) : hx_adr A w = hx_adr B w := by unfold hx_adr; rw [h0, h1]
theorem Rel_congr {P A B : Nat → Int32} {w x : Nat} (h : ∀ j, w ≤ j → j < w + dl (P x) → A j = B j) (H : hx_Rel P B w x) : hx_Rel P A w x := by
  obtain ⟨r4, r5, r6, r8, r0⟩ := H
  have d := dl_in (P x)
  refine ⟨fun k => ?_, fun k => ?_, fun k => ?_, fun k => ?_, fun k4 k5 k6 k8 => ?_⟩
  · have e : dl (P x) = 3 := by rw [k]; rfl
    rw [h w (by omega) (by omega), adr_congr (h (w + 1) (by omega) (by omega)) (h (w + 1 + 1) (by omega) (by omega))]
    exact r4 k
  · have e : dl (P x) = 4 := by rw [k]; rfl
    rw [h w (by omega) (by omega), h (w + 1) (by omega) (by omega), adr_congr (h (w + 2) (by omega) (by omega)) (h (w + 2 + 1) (by omega) (by omega))]
    exact r5 k
  · have e : dl (P x) = 3 := by rw [k]; rfl
    rw [h w (by omega) (by omega), adr_congr (h (w + 1) (by omega) (by omega)) (h (w + 1 + 1) (by omega) (by omega))]
    exact r6 k
  · have e : dl (P x) = 4 := by rw [k]; rfl
    rw [h w (by omega) (by omega), h (w + 1) (by omega) (by omega), adr_congr (h (w + 2) (by omega) (by omega)) (h (w + 2 + 1) (by omega) (by omega))]
    exact r8 k
  · have q := r0 k4 k5 k6 k8
    refine ⟨by rw [h w (by omega) (by omega)]; exact q.1, fun z1 z2 => ?_⟩
    have e : dl (P x) = 2 := by unfold dl; rw [if_neg k4, if_neg k5, if_neg k6, if_neg k8, if_neg z1, if_neg z2]
    rw [h (w + 1) (by omega) (by omega)]
    exact q.2 z1 z2
theorem put_5 (τ : SG) (w : Nat) (b : Int32) : (f_put τ w b) 5 = upd (τ 5) w b := rfl
theorem pa_5 (τ : SG) (w : Nat) (x : Int32) : (f_pa τ w x) 5 = upd (upd (τ 5) w ((x + 256) >>> ((8 : Int32) &&& 31))) (w + 1) ((x + 256) &&& 255) := rfl
theorem pa_adr (τ : SG) (w : Nat) (x : Int32) : hx_adr ((f_pa τ w x) 5) w = x := by
  unfold hx_adr
  rw [pa_5, upd_n _ _ (show w ≠ w + 1 by omega), upd_s, upd_s]
  exact adr_id x
theorem pa_out (τ : SG) (w : Nat) (x : Int32) {j : Nat} (h : j < w ∨ w + 2 ≤ j) : (f_pa τ w x) 5 j = τ 5 j := by rw [pa_5, upd_n _ _ (by omega), upd_n _ _ (by omega)]
theorem put_out (τ : SG) (w : Nat) (x : Int32) {j : Nat} (h : j ≠ w) : (f_put τ w x) 5 j = τ 5 j := by rw [put_5, upd_n _ _ h]
theorem put_at (τ : SG) (w : Nat) (x : Int32) : (f_put τ w x) 5 w = x := by rw [put_5, upd_s]
/-- cells other than the second area and the object stay -/
theorem rel_o (τ : SG) (w x : Nat) : (∀ c, c ≠ 0 → c ≠ 5 → (f_rel τ w x) c = τ c) ∧ ∀ k, k ≠ 6 → (f_rel τ w x) 0 k = τ 0 k := by
  have P0 : ∀ (τ : SG) (w : Nat) (b : Int32), (∀ c, c ≠ 0 → c ≠ 5 → (f_put τ w b) c = τ c) ∧ ∀ k, k ≠ 6 → (f_put τ w b) 0 k = τ 0 k := by
    intro τ w b
    refine ⟨fun c h0 h5 => ?_, fun k hk => ?_⟩
    · unfold f_put ss; rw [if_neg h0, if_neg h5]
    · show upd (τ 0) 6 _ k = _; rw [upd_n _ _ hk]
  have PA : ∀ (τ : SG) (w : Nat) (b : Int32), (∀ c, c ≠ 0 → c ≠ 5 → (f_pa τ w b) c = τ c) ∧ ∀ k, k ≠ 6 → (f_pa τ w b) 0 k = τ 0 k := by
    intro τ w b
    unfold f_pa
    exact ⟨fun c h0 h5 => ((P0 _ _ _).1 c h0 h5).trans ((P0 _ _ _).1 c h0 h5), fun k hk => ((P0 _ _ _).2 k hk).trans ((P0 _ _ _).2 k hk)⟩
  unfold f_rel
  split
  · exact ⟨fun c h0 h5 => ((PA _ _ _).1 c h0 h5).trans ((P0 _ _ _).1 c h0 h5), fun k hk => ((PA _ _ _).2 k hk).trans ((P0 _ _ _).2 k hk)⟩
  split
  · exact ⟨fun c h0 h5 => ((PA _ _ _).1 c h0 h5).trans (((P0 _ _ _).1 c h0 h5).trans ((P0 _ _ _).1 c h0 h5)), fun k hk => ((PA _ _ _).2 k hk).trans (((P0 _ _ _).2 k hk).trans ((P0 _ _ _).2 k hk))⟩
  split
  · exact ⟨fun c h0 h5 => ((PA _ _ _).1 c h0 h5).trans ((P0 _ _ _).1 c h0 h5), fun k hk => ((PA _ _ _).2 k hk).trans ((P0 _ _ _).2 k hk)⟩
  split
  · exact ⟨fun c h0 h5 => ((PA _ _ _).1 c h0 h5).trans (((P0 _ _ _).1 c h0 h5).trans ((P0 _ _ _).1 c h0 h5)), fun k hk => ((PA _ _ _).2 k hk).trans (((P0 _ _ _).2 k hk).trans ((P0 _ _ _).2 k hk))⟩
  split
  · exact P0 _ _ _
  split
  · exact P0 _ _ _
  · exact ⟨fun c h0 h5 => ((P0 _ _ _).1 c h0 h5).trans ((P0 _ _ _).1 c h0 h5), fun k hk => ((P0 _ _ _).2 k hk).trans ((P0 _ _ _).2 k hk)⟩
theorem rel_5 (τ : SG) (w x : Nat) : (∀ j, j < w ∨ w + dl (τ 1 x) ≤ j → (f_rel τ w x) 5 j = τ 5 j) ∧ hx_Rel (τ 1) ((f_rel τ w x) 5) w x := by
  by_cases k4 : τ 1 x = 4
  · have e : f_rel τ w x = f_pa (f_put τ w 14) (w + 1) (tgI (τ 1) x) := by unfold f_rel; rw [if_pos k4]
    have d : dl (τ 1 x) = 3 := by rw [k4]; rfl
    rw [e, d]
    refine ⟨fun j hj => by rw [pa_out _ _ _ (by omega), put_out _ _ _ (by omega)], fun _ => ⟨by rw [pa_out _ _ _ (by omega), put_at], pa_adr _ _ _⟩, fun k => ?_, fun k => ?_, fun k => ?_, fun z => absurd k4 z⟩ <;> exact absurd (k4.symm.trans k) (by decide)
  by_cases k5 : τ 1 x = 5
  · have e : f_rel τ w x = f_pa (f_put (f_put τ w 11) (w + 1) (τ 1 (x + 1))) (w + 2) (tgI (τ 1) x) := by unfold f_rel; rw [if_neg k4, if_pos k5]
    have d : dl (τ 1 x) = 4 := by rw [k5]; rfl
    rw [e, d]
    refine ⟨fun j hj => by rw [pa_out _ _ _ (by omega), put_out _ _ _ (by omega), put_out _ _ _ (by omega)], fun k => absurd k k4, fun _ => ⟨by rw [pa_out _ _ _ (by omega), put_out _ _ _ (by omega), put_at], by rw [pa_out _ _ _ (by omega), put_at], pa_adr _ _ _⟩, fun k => ?_, fun k => ?_, fun _ z => absurd k5 z⟩ <;> exact absurd (k5.symm.trans k) (by decide)
  by_cases k6 : τ 1 x = 6
  · have e : f_rel τ w x = f_pa (f_put τ w 12) (w + 1) (tgI (τ 1) x) := by unfold f_rel; rw [if_neg k4, if_neg k5, if_pos k6]
    have d : dl (τ 1 x) = 3 := by rw [k6]; rfl
    rw [e, d]
    refine ⟨fun j hj => by rw [pa_out _ _ _ (by omega), put_out _ _ _ (by omega)], fun k => absurd k k4, fun k => absurd k k5, fun _ => ⟨by rw [pa_out _ _ _ (by omega), put_at], pa_adr _ _ _⟩, fun k => absurd (k6.symm.trans k) (by decide), fun _ _ z => absurd k6 z⟩
  by_cases k8 : τ 1 x = 8
  · have e : f_rel τ w x = f_pa (f_put (f_put τ w 13) (w + 1) (τ 1 (x + 1))) (w + 2) (nI (x + 2)) := by unfold f_rel; rw [if_neg k4, if_neg k5, if_neg k6, if_pos k8]
    have d : dl (τ 1 x) = 4 := by rw [k8]; rfl
    rw [e, d]
    exact ⟨fun j hj => by rw [pa_out _ _ _ (by omega), put_out _ _ _ (by omega), put_out _ _ _ (by omega)], fun k => absurd k k4, fun k => absurd k k5, fun k => absurd k k6, fun _ => ⟨by rw [pa_out _ _ _ (by omega), put_out _ _ _ (by omega), put_at], by rw [pa_out _ _ _ (by omega), put_at], pa_adr _ _ _⟩, fun _ _ _ z => absurd k8 z⟩
  by_cases k0 : τ 1 x ≤ 0
  · have e : f_rel τ w x = f_put τ w (τ 1 x) := by unfold f_rel; rw [if_neg k4, if_neg k5, if_neg k6, if_neg k8, if_pos k0]
    have d : dl (τ 1 x) = 1 := by unfold dl; rw [if_neg k4, if_neg k5, if_neg k6, if_neg k8, if_pos k0]
    rw [e, d]
    exact ⟨fun j hj => put_out _ _ _ (by omega), fun k => absurd k k4, fun k => absurd k k5, fun k => absurd k k6, fun k => absurd k k8, fun _ _ _ _ => ⟨put_at _ _ _, fun z => absurd k0 z⟩⟩
  by_cases k1 : 4 ≤ τ 1 x
  · have e : f_rel τ w x = f_put τ w (τ 1 x) := by unfold f_rel; rw [if_neg k4, if_neg k5, if_neg k6, if_neg k8, if_neg k0, if_pos k1]
    have d : dl (τ 1 x) = 1 := by unfold dl; rw [if_neg k4, if_neg k5, if_neg k6, if_neg k8, if_neg k0, if_pos k1]
    rw [e, d]
    exact ⟨fun j hj => put_out _ _ _ (by omega), fun k => absurd k k4, fun k => absurd k k5, fun k => absurd k k6, fun k => absurd k k8, fun _ _ _ _ => ⟨put_at _ _ _, fun _ z => absurd k1 z⟩⟩
  · have e : f_rel τ w x = f_put (f_put τ w (τ 1 x)) (w + 1) (τ 1 (x + 1)) := by unfold f_rel; rw [if_neg k4, if_neg k5, if_neg k6, if_neg k8, if_neg k0, if_neg k1]
    have d : dl (τ 1 x) = 2 := by unfold dl; rw [if_neg k4, if_neg k5, if_neg k6, if_neg k8, if_neg k0, if_neg k1]
    rw [e, d]
    exact ⟨fun j hj => by rw [put_out _ _ _ (by omega), put_out _ _ _ (by omega)], fun k => absurd k k4, fun k => absurd k k5, fun k => absurd k k6, fun k => absurd k k8, fun _ _ _ _ => ⟨by rw [put_out _ _ _ (by omega), put_at], fun _ _ => put_at _ _ _⟩⟩
/-- the moved instructions' addresses, and their places in the second area -/
def hx_X (P : Nat → Int32) (a : Nat) : Nat → Nat
  | 0 => a
  | i + 1 => hx_X P a i + ln (P (hx_X P a i))
def hx_W (P : Nat → Int32) (a w : Nat) : Nat → Nat
  | 0 => w
  | i + 1 => hx_W P a w i + dl (P (hx_X P a i))
theorem hx_X_mono (P : Nat → Int32) (a : Nat) : ∀ j i, hx_X P a i + j ≤ hx_X P a (i + j) := by
  intro j
  induction j with
  | zero => exact fun i => Nat.le_refl _
  | succ j ih =>
    intro i
    have := ih i
    have l := ln_in (P (hx_X P a (i + j)))
    show _ ≤ hx_X P a (i + j) + ln (P (hx_X P a (i + j)))
    omega
theorem hx_W_mono (P : Nat → Int32) (a w : Nat) : ∀ j i, hx_W P a w i + j ≤ hx_W P a w (i + j) := by
  intro j
  induction j with
  | zero => exact fun i => Nat.le_refl _
  | succ j ih =>
    intro i
    have := ih i
    have l := dl_in (P (hx_X P a (i + j)))
    show _ ≤ hx_W P a w (i + j) + dl (P (hx_X P a (i + j)))
    omega
/-- m instructions are moved -/
def hx_Q (σ : SG) (s a m : Nat) (τ : SG) : Prop :=
  (∀ i, i < m → hx_Rel (σ 1) (τ 5) (hx_W (σ 1) a (16 * s + 2) i) (hx_X (σ 1) a i) ∧ τ 4 (hx_X (σ 1) a i) = nI (512 + hx_W (σ 1) a (16 * s + 2) i)) ∧
  (τ 5 (16 * s) = 10 ∧ τ 5 (16 * s + 1) = nI s) ∧ (∀ j, j < 16 * s ∨ hx_W (σ 1) a (16 * s + 2) m ≤ j → τ 5 j = σ 5 j) ∧ (∀ x, (∀ i, i < m → x ≠ hx_X (σ 1) a i) → τ 4 x = σ 4 x) ∧ (∀ c, c ≠ 0 → c ≠ 4 → c ≠ 5 → τ c = σ c) ∧ ∀ k, k ≠ 6 → τ 0 k = σ 0 k
theorem Q_0 (σ : SG) (s a : Nat) : hx_Q σ s a 0 (d_0 σ s) := by
  refine ⟨fun i hi => absurd hi (Nat.not_lt_zero i), ⟨?_, ?_⟩, fun j hj => ?_, fun x _ => rfl, fun c h0 h4 h5 => ?_, fun k hk => ?_⟩
  · show upd (upd (σ 5) (16 * s) 10) (16 * s + 1) (nI s) (16 * s) = 10
    rw [upd_n _ _ (by omega), upd_s]
  · show upd (upd (σ 5) (16 * s) 10) (16 * s + 1) (nI s) (16 * s + 1) = nI s
    rw [upd_s]
  · have hj2 : j < 16 * s ∨ 16 * s + 2 ≤ j := hj
    show upd (upd (σ 5) (16 * s) 10) (16 * s + 1) (nI s) j = σ 5 j
    rw [upd_n _ _ (by omega), upd_n _ _ (by omega)]
  · unfold d_0 f_put ss
    rw [if_neg h0, if_neg h5, if_neg h0, if_neg h5, if_neg h0]
  · show upd (upd (upd (σ 0) 6 _) 6 _) 6 _ k = σ 0 k
    rw [upd_n _ _ hk, upd_n _ _ hk, upd_n _ _ hk]
theorem Q_s {σ τ : SG} {s a m : Nat} (h : hx_Q σ s a m τ) : hx_Q σ s a (m + 1) (dst τ (hx_W (σ 1) a (16 * s + 2) m) (hx_X (σ 1) a m)) := by
  obtain ⟨q1, ⟨q2, q2'⟩, q3, q4, q5, q6⟩ := h
  have e1 : τ 1 = σ 1 := q5 1 (by decide) (by decide) (by decide)
  have R := rel_5 (ss τ 4 (hx_X (σ 1) a m) (512 + nI (hx_W (σ 1) a (16 * s + 2) m))) (hx_W (σ 1) a (16 * s + 2) m) (hx_X (σ 1) a m)
  have O := rel_o (ss τ 4 (hx_X (σ 1) a m) (512 + nI (hx_W (σ 1) a (16 * s + 2) m))) (hx_W (σ 1) a (16 * s + 2) m) (hx_X (σ 1) a m)
  have R1 : ∀ j, j < hx_W (σ 1) a (16 * s + 2) m ∨ hx_W (σ 1) a (16 * s + 2) m + dl (σ 1 (hx_X (σ 1) a m)) ≤ j → (dst τ (hx_W (σ 1) a (16 * s + 2) m) (hx_X (σ 1) a m)) 5 j = τ 5 j := by rw [← e1]; rw [← e1] at R; exact R.1
  have R2 : hx_Rel (σ 1) ((dst τ (hx_W (σ 1) a (16 * s + 2) m) (hx_X (σ 1) a m)) 5) (hx_W (σ 1) a (16 * s + 2) m) (hx_X (σ 1) a m) := by rw [← e1]; rw [← e1] at R; exact R.2
  have e4 : (dst τ (hx_W (σ 1) a (16 * s + 2) m) (hx_X (σ 1) a m)) 4 = upd (τ 4) (hx_X (σ 1) a m) (nI (512 + hx_W (σ 1) a (16 * s + 2) m)) := (O.1 4 (by decide) (by decide)).trans (by rw [a512]; rfl)
  have w0 := hx_W_mono (σ 1) a (16 * s + 2) m 0
  rw [Nat.zero_add] at w0
  have w00 : hx_W (σ 1) a (16 * s + 2) 0 = 16 * s + 2 := rfl
  have wd1 := dl_in (σ 1 (hx_X (σ 1) a m))
  refine ⟨fun i hi => ?_, ⟨?_, ?_⟩, fun j hj => ?_, fun x hx => ?_, fun c h0 h4 h5 => ?_, fun k hk => (O.2 k hk).trans (q6 k hk)⟩
  · rcases Nat.lt_succ_iff_lt_or_eq.mp hi with z | z
    · have wi := hx_W_mono (σ 1) a (16 * s + 2) (m - (i + 1)) (i + 1)
      rw [show i + 1 + (m - (i + 1)) = m by omega] at wi
      have wi2 : hx_W (σ 1) a (16 * s + 2) (i + 1) = hx_W (σ 1) a (16 * s + 2) i + dl (σ 1 (hx_X (σ 1) a i)) := rfl
      have xi := hx_X_mono (σ 1) a (m - i) i
      rw [show i + (m - i) = m by omega] at xi
      refine ⟨Rel_congr (fun j j1 j2 => R1 j (Or.inl (by omega))) (q1 i z).1, ?_⟩
      rw [e4, upd_n _ _ (by omega)]
      exact (q1 i z).2
    · subst z
      exact ⟨R2, by rw [e4, upd_s]⟩
  · rw [R1 _ (Or.inl (by omega))]; exact q2
  · rw [R1 _ (Or.inl (by omega))]; exact q2'
  · have hj2 : j < 16 * s ∨ hx_W (σ 1) a (16 * s + 2) m + dl (σ 1 (hx_X (σ 1) a m)) ≤ j := hj
    rw [R1 j (by omega)]
    exact q3 j (by omega)
  · rw [e4, upd_n _ _ (hx m (Nat.lt_succ_self m))]
    exact q4 x (fun i hi => hx i (by omega))
  · refine (O.1 c h0 h5).trans ?_
    show (if c = 4 then _ else τ c) = σ c
    rw [if_neg h4]
    exact q5 c h0 h4 h5
/-- the whole picture behind displace -/
theorem disp_Q (σ : SG) {s a N : Nat} (hs : s < 4) (hN : N ≤ 64) (ha : a + 3 ≤ N) (hS : ¬ σ 3 a = 0) (hC : Chn (σ 1) (σ 3) N) :
    ∃ m, (1 ≤ m ∧ m ≤ 3) ∧ hx_X (σ 1) a m = a + hl (σ 1) a ∧ (∀ i, i < m → hx_X (σ 1) a i < N ∧ ¬ σ 3 (hx_X (σ 1) a i) = 0) ∧ hx_W (σ 1) a (16 * s + 2) m + 3 ≤ 16 * s + 16 ∧ ∃ τ, hx_Q σ s a m τ ∧ f_disp σ s a = d_f τ (hx_W (σ 1) a (16 * s + 2) m) (a + hl (σ 1) a) := by
  have l1 := ln_in (σ 1 a)
  have l2 := ln_in (σ 1 (a + ln (σ 1 a)))
  have q1 := dl_in (σ 1 a)
  have q2 := dl_in (σ 1 (a + ln (σ 1 a)))
  have q3 := dl_in (σ 1 (a + (ln (σ 1 a) + ln (σ 1 (a + ln (σ 1 a))))))
  have hd := hC.head ha hS
  have X2 : hx_X (σ 1) a 2 = a + (ln (σ 1 a) + ln (σ 1 (a + ln (σ 1 a)))) := Nat.add_assoc _ _ _
  have X3 : hx_X (σ 1) a 3 = a + (ln (σ 1 a) + ln (σ 1 (a + ln (σ 1 a)))) + ln (σ 1 (a + (ln (σ 1 a) + ln (σ 1 (a + ln (σ 1 a)))))) := by show hx_X (σ 1) a 2 + ln (σ 1 (hx_X (σ 1) a 2)) = _; rw [X2]
  have W2 : hx_W (σ 1) a (16 * s + 2) 2 = 16 * s + 2 + dl (σ 1 a) + dl (σ 1 (a + ln (σ 1 a))) := rfl
  have W3 : hx_W (σ 1) a (16 * s + 2) 3 = 16 * s + 2 + dl (σ 1 a) + dl (σ 1 (a + ln (σ 1 a))) + dl (σ 1 (a + (ln (σ 1 a) + ln (σ 1 (a + ln (σ 1 a)))))) := by show hx_W (σ 1) a (16 * s + 2) 2 + dl (σ 1 (hx_X (σ 1) a 2)) = _; rw [X2, W2]
  have Q1 := Q_s (Q_0 σ s a)
  have Q2 := Q_s Q1
  have Q3 := Q_s Q2
  rw [X2] at Q3
  unfold f_disp
  by_cases e1 : 3 ≤ ln (σ 1 a)
  · have eh : hl (σ 1) a = ln (σ 1 a) := by unfold hl; rw [if_pos e1]
    refine ⟨1, by decide, by rw [eh]; rfl, fun i hi => ?_, ?_, _, Q1, by rw [if_pos e1]; rfl⟩
    · obtain rfl : i = 0 := by omega
      exact ⟨show a < N by omega, hS⟩
    · show 16 * s + 2 + dl (σ 1 a) + 3 ≤ _
      omega
  · by_cases e2 : 3 ≤ ln (σ 1 a) + ln (σ 1 (a + ln (σ 1 a)))
    · have eh : hl (σ 1) a = ln (σ 1 a) + ln (σ 1 (a + ln (σ 1 a))) := by unfold hl; rw [if_neg e1, if_pos e2]
      have d1 := hd.1.2.1 (by omega)
      refine ⟨2, by decide, by rw [eh, X2], fun i hi => ?_, ?_, _, Q2, by rw [if_neg e1, if_pos e2]; rfl⟩
      · rcases (show i = 0 ∨ i = 1 by omega) with rfl | rfl
        · exact ⟨show a < N by omega, hS⟩
        · exact ⟨show a + ln (σ 1 a) < N by omega, d1.2⟩
      · rw [W2]; omega
    · have eh : hl (σ 1) a = ln (σ 1 a) + ln (σ 1 (a + ln (σ 1 a))) + ln (σ 1 (a + (ln (σ 1 a) + ln (σ 1 (a + ln (σ 1 a)))))) := by unfold hl; rw [if_neg e1, if_neg e2]
      have d1 := hd.1.2.1 (by omega)
      have d2 := hd.1.2.2 (by omega)
      have l3 := ln_in (σ 1 (a + (ln (σ 1 a) + ln (σ 1 (a + ln (σ 1 a))))))
      have g1 := dl_1 (k := σ 1 a) (by omega)
      have g2 := dl_1 (k := σ 1 (a + ln (σ 1 a))) (by omega)
      refine ⟨3, by decide, by rw [eh, X3]; omega, fun i hi => ?_, by rw [W3]; omega, _, Q3, by rw [if_neg e1, if_neg e2, W3]; rfl⟩
      rcases (show i = 0 ∨ i = 1 ∨ i = 2 by omega) with rfl | rfl | rfl
      · exact ⟨show a < N by omega, hS⟩
      · exact ⟨show a + ln (σ 1 a) < N by omega, d1.2⟩
      · rw [X2]
        exact ⟨by omega, d2.2⟩
end
section
/-! ===== hooking and unhooking keep the invariant ===== -/
theorem owL_spec (a : Nat) : ∀ (m j : Nat) (τ : SG), (∀ c, c ≠ 2 → (owL a m j τ) c = τ c) ∧ ∀ i, i < a + j ∨ a + j + m ≤ i → (owL a m j τ) 2 i = τ 2 i := by
  intro m
  induction m with
  | zero => exact fun j τ => ⟨fun _ _ => rfl, fun _ _ => rfl⟩
  | succ m ih =>
    intro j τ
    have g := ih (j + 1) (ss τ 2 (a + j) 255)
    refine ⟨fun c hc => (g.1 c hc).trans ?_, fun i hi => (g.2 i (by omega)).trans ?_⟩
    · show (if c = 2 then _ else τ c) = τ c
      rw [if_neg hc]
    · show upd (τ 2) (a + j) 255 i = τ 2 i
      rw [upd_n _ _ (by omega)]
theorem ow_spec (τ : SG) (s a n : Nat) (hn : 3 ≤ n) : (∀ c, c ≠ 2 → (f_ow τ s a n) c = τ c) ∧ ((f_ow τ s a n) 2 a = 9 ∧ (f_ow τ s a n) 2 (a + 1) = 3 ∧ (f_ow τ s a n) 2 (a + 2) = nI (16 * s)) ∧ ∀ i, i < a ∨ a + n ≤ i → (f_ow τ s a n) 2 i = τ 2 i := by
  have g := owL_spec a (n - 3) 3 (ss (ss (ss τ 2 a 9) 2 (a + 1) 3) 2 (a + 2) (nI (16 * s)))
  unfold f_ow
  refine ⟨fun c hc => (g.1 c hc).trans ?_, ⟨(g.2 a (by omega)).trans ?_, (g.2 (a + 1) (by omega)).trans ?_, (g.2 (a + 2) (by omega)).trans ?_⟩, fun i hi => (g.2 i (by omega)).trans ?_⟩
  · show (if c = 2 then _ else if c = 2 then _ else if c = 2 then _ else τ c) = τ c
    rw [if_neg hc, if_neg hc, if_neg hc]
  · show upd (upd (upd (τ 2) a 9) (a + 1) 3) (a + 2) (nI (16 * s)) a = 9
    rw [upd_n _ _ (by omega), upd_n _ _ (by omega), upd_s]
  · show upd (upd (upd (τ 2) a 9) (a + 1) 3) (a + 2) (nI (16 * s)) (a + 1) = 3
    rw [upd_n _ _ (by omega), upd_s]
  · show upd (upd (upd (τ 2) a 9) (a + 1) 3) (a + 2) (nI (16 * s)) (a + 2) = nI (16 * s)
    rw [upd_s]
  · show upd (upd (upd (τ 2) a 9) (a + 1) 3) (a + 2) (nI (16 * s)) i = τ 2 i
    rw [upd_n _ _ (by omega), upd_n _ _ (by omega), upd_n _ _ (by omega)]
theorem df_spec (τ : SG) (w y : Nat) : ((d_f τ w y) 5 w = 9 ∧ hx_adr ((d_f τ w y) 5) (w + 1) = nI y) ∧ (∀ j, j < w ∨ w + 3 ≤ j → (d_f τ w y) 5 j = τ 5 j) ∧ (∀ c, c ≠ 0 → c ≠ 5 → (d_f τ w y) c = τ c) ∧ ∀ k, k ≠ 6 → (d_f τ w y) 0 k = τ 0 k := by
  unfold d_f
  refine ⟨⟨by rw [pa_out _ _ _ (by omega), put_at], pa_adr _ _ _⟩, fun j hj => by rw [pa_out _ _ _ (by omega), put_out _ _ _ (by omega)], fun c h0 h5 => ?_, fun k hk => ?_⟩
  · unfold f_pa f_put ss
    rw [if_neg h0, if_neg h5, if_neg h0, if_neg h5, if_neg h0, if_neg h5]
  · show upd (upd (upd (τ 0) 6 _) 6 _) 6 _ k = τ 0 k
    rw [upd_n _ _ hk, upd_n _ _ hk, upd_n _ _ hk]
theorem HD_congr {P C D S M L A B : Nat → Int32} {N h b m : Nat} {X W : Nat → Nat} (H : hx_HD P C S M A N h b m X W) (hC : ∀ i, b ≤ i → i < b + hl P b → D i = C i) (hM : ∀ i, b ≤ i → i < b + hl P b → L i = M i) (hA : ∀ j, 16 * h ≤ j → j < 16 * h + 16 → B j = A j) : hx_HD P D S L B N h b m X W := by
  have l := hl_in P b
  have wm := HD_w H (Nat.le_refl m)
  obtain ⟨h1, h2, ⟨h3, h3'⟩, ⟨h4, h4'⟩, h5, h6, h7⟩ := id H
  refine ⟨h1, fun i hi => ?_, ⟨by rw [hA _ (by omega) (by omega)]; exact h3, by rw [adr_congr (hA _ (by omega) (by omega)) (hA _ (by omega) (by omega))]; exact h3'⟩, ⟨by rw [hA _ (by omega) (by omega)]; exact h4, by rw [hA _ (by omega) (by omega)]; exact h4'⟩, by rw [hC _ (by omega) (by omega)]; exact h5, by rw [hC _ (by omega) (by omega)]; exact h6, by rw [hC _ (by omega) (by omega)]; exact h7⟩
  have q := h2 i hi
  have w1 := HD_w H (i := i) (by omega)
  have w2 := HD_wd H hi
  have xm := HD_mono H (m - i) i (by omega)
  rw [show i + (m - i) = m by omega] at xm
  have e := h1.2.2.2.1
  exact ⟨q.1, q.2.1, Rel_congr (fun j j1 j2 => hA j (by omega) (by omega)) q.2.2.1, fun z => by rw [hM _ (by omega) (by omega)]; exact q.2.2.2 z⟩
set_option maxHeartbeats 1000000 in
theorem hook_inv {N s a : Nat} {σ μ : SG} (hI : hx_InvN N σ μ) (hs : s < 4) (hfree : σ 7 s = -1) (ha : a + 3 ≤ N) (hS : ¬ σ 3 a = 0) (hnh : μ 21 a = 0)
    (hmt : ∀ g b, g < 4 → b < 64 → σ 7 g = nI b → b + hl (σ 1) b ≤ a ∨ a + hl (σ 1) a ≤ b) (htg : ∀ x, x < N → ¬ σ 3 x = 0 → tgI (σ 1) x ≤ nI a ∨ nI (a + hl (σ 1) a) ≤ tgI (σ 1) x) : hx_InvN N (f_hook σ s a) (ss (ss μ 21 a 1) 22 a 0) := by
  obtain ⟨h1, h2, hp, hH, hL, h20, h9, h10⟩ := id hI
  have hN := h1.1
  have l := hl_in (σ 1) a
  have hd := hp.1.head ha hS
  have nohk : ∀ g, g < 4 → ¬ σ 7 g = nI a := (hL.1 a (by omega)).mp hnh
  obtain ⟨m, hm, hX, hst, hW, τ, Q, eD⟩ : ∃ m, (1 ≤ m ∧ m ≤ 3) ∧ hx_X (σ 1) a m = a + hl (σ 1) a ∧ (∀ i, i < m → hx_X (σ 1) a i < N ∧ ¬ σ 3 (hx_X (σ 1) a i) = 0) ∧ hx_W (σ 1) a (16 * s + 2) m + 3 ≤ 16 * s + 16 ∧ ∃ τ, hx_Q (ss (ss (ss σ 7 s (nI a)) 8 s (nI (hl (σ 1) a))) 9 s 0) s a m τ ∧ f_disp (ss (ss (ss σ 7 s (nI a)) 8 s (nI (hl (σ 1) a))) 9 s 0) s a = d_f τ (hx_W (σ 1) a (16 * s + 2) m) (a + hl (σ 1) a) := disp_Q (ss (ss (ss σ 7 s (nI a)) 8 s (nI (hl (σ 1) a))) 9 s 0) hs hN ha hS hp.1
  obtain ⟨T, eT⟩ : ∃ T, T = f_hook σ s a := ⟨_, rfl⟩
  have eT2 : T = f_ow (d_f τ (hx_W (σ 1) a (16 * s + 2) m) (a + hl (σ 1) a)) s a (hl (σ 1) a) := by rw [eT]; unfold f_hook; rw [eD]
  rw [← eT]
  have OW := ow_spec (d_f τ (hx_W (σ 1) a (16 * s + 2) m) (a + hl (σ 1) a)) s a (hl (σ 1) a) l.1
  rw [← eT2] at OW
  have DF := df_spec τ (hx_W (σ 1) a (16 * s + 2) m) (a + hl (σ 1) a)
  obtain ⟨q1, ⟨q2, q2'⟩, q3, q4, q5, q6⟩ := Q
  have q1' : ∀ i, i < m → hx_Rel (σ 1) (τ 5) (hx_W (σ 1) a (16 * s + 2) i) (hx_X (σ 1) a i) ∧ τ 4 (hx_X (σ 1) a i) = nI (512 + hx_W (σ 1) a (16 * s + 2) i) := q1
  have q3' : ∀ j, j < 16 * s ∨ hx_W (σ 1) a (16 * s + 2) m ≤ j → τ 5 j = σ 5 j := q3
  have q4' : ∀ x, (∀ i, i < m → x ≠ hx_X (σ 1) a i) → τ 4 x = σ 4 x := q4
  have oth : ∀ c, c ≠ 0 → c ≠ 2 → c ≠ 4 → c ≠ 5 → T c = (ss (ss (ss σ 7 s (nI a)) 8 s (nI (hl (σ 1) a))) 9 s 0) c := fun c c0 c2 c4 c5 => (OW.1 c c2).trans ((DF.2.2.1 c c0 c5).trans (q5 c c0 c4 c5))
  have T1 : T 1 = σ 1 := oth 1 (by decide) (by decide) (by decide) (by decide)
  have T3 : T 3 = σ 3 := oth 3 (by decide) (by decide) (by decide) (by decide)
  have T7 : T 7 = upd (σ 7) s (nI a) := oth 7 (by decide) (by decide) (by decide) (by decide)
  have T8 : T 8 = upd (σ 8) s (nI (hl (σ 1) a)) := oth 8 (by decide) (by decide) (by decide) (by decide)
  have T9 : T 9 = upd (σ 9) s 0 := oth 9 (by decide) (by decide) (by decide) (by decide)
  have T10 : T 10 = σ 10 := oth 10 (by decide) (by decide) (by decide) (by decide)
  have T0 : ∀ k, k ≠ 6 → T 0 k = σ 0 k := fun k hk => (congrFun (OW.1 0 (by decide)) k).trans ((DF.2.2.2 k hk).trans (q6 k hk))
  have T4 : T 4 = τ 4 := (OW.1 4 (by decide)).trans (DF.2.2.1 4 (by decide) (by decide))
  have T5 : T 5 = (d_f τ (hx_W (σ 1) a (16 * s + 2) m) (a + hl (σ 1) a)) 5 := OW.1 5 (by decide)
  have T2 : (d_f τ (hx_W (σ 1) a (16 * s + 2) m) (a + hl (σ 1) a)) 2 = σ 2 := (DF.2.2.1 2 (by decide) (by decide)).trans (q5 2 (by decide) (by decide) (by decide))
  have Cout : ∀ i, i < a ∨ a + hl (σ 1) a ≤ i → T 2 i = σ 2 i := fun i hi => by rw [OW.2.2 i hi, T2]
  have w0 := hx_W_mono (σ 1) a (16 * s + 2) m 0
  rw [Nat.zero_add] at w0
  have w00 : hx_W (σ 1) a (16 * s + 2) 0 = 16 * s + 2 := rfl
  have Ain : ∀ j, j < hx_W (σ 1) a (16 * s + 2) m → T 5 j = τ 5 j := fun j hj => by rw [T5]; exact DF.2.1 j (Or.inl hj)
  have Aout : ∀ j, j < 16 * s ∨ 16 * s + 16 ≤ j → T 5 j = σ 5 j := fun j hj => by rw [T5, DF.2.1 j (by omega)]; exact q3' j (by omega)
  have xlt : ∀ i, i < m → a ≤ hx_X (σ 1) a i ∧ hx_X (σ 1) a i < a + hl (σ 1) a := by
    intro i hi
    have g1 := hx_X_mono (σ 1) a i 0
    have g2 := hx_X_mono (σ 1) a (m - i) i
    rw [show i + (m - i) = m by omega, hX] at g2
    rw [Nat.zero_add] at g1
    have : hx_X (σ 1) a 0 = a := rfl
    omega
  have Mout : ∀ x, x < a ∨ a + hl (σ 1) a ≤ x → T 4 x = σ 4 x := fun x hx => by
    rw [T4]
    exact q4' x (fun i hi e => by have := xlt i hi; omega)
  have HAs : upd (σ 7) s (nI a) s = nI a := upd_s _ _ _
  have HAn : ∀ g, g ≠ s → upd (σ 7) s (nI a) g = σ 7 g := fun g hg => upd_n _ _ hg
  refine ⟨⟨hN, (T0 0 (by decide)).trans h1.2.1, h1.2.2⟩, ⟨by rw [T1]; exact h2.1, by rw [T3]; exact h2.2⟩, by rw [T1, T3]; exact hp, ?_, ?_, by rw [T10]; exact h20, by rw [T0 15 (by decide)]; exact h9, by rw [T0 14 (by decide)]; exact h10⟩
  · rw [T1, T3, T7, T8]
    refine ⟨fun g hg => ?_, fun g k b d hg hk hgk eg ek hb hd2 => ?_, fun i hi hout => ?_⟩
    · by_cases z : g = s
      · subst z
        refine Or.inr ⟨a, HAs, ⟨ha, hS, upd_s _ _ _⟩, htg, m, hx_X (σ 1) a, hx_W (σ 1) a (16 * g + 2), ⟨hm.1, rfl, rfl, hX, hW⟩, fun i hi => ?_, ⟨by rw [T5]; exact DF.1.1, by rw [T5, hX]; exact DF.1.2⟩, ⟨by rw [Ain _ (by omega)]; exact q2, by rw [Ain _ (by omega)]; exact q2'⟩, OW.2.1.1, OW.2.1.2.1, OW.2.1.2.2⟩
        have wi := hx_W_mono (σ 1) a (16 * g + 2) (m - (i + 1)) (i + 1)
        rw [show i + 1 + (m - (i + 1)) = m by omega] at wi
        have wi2 : hx_W (σ 1) a (16 * g + 2) (i + 1) = hx_W (σ 1) a (16 * g + 2) i + dl (σ 1 (hx_X (σ 1) a i)) := rfl
        exact ⟨hst i hi, ⟨rfl, rfl⟩, Rel_congr (fun j j1 j2 => Ain j (by omega)) (q1' i hi).1, fun _ => by rw [T4]; exact (q1' i hi).2⟩
      · rw [HAn g z]
        rcases hH.1 g hg with e | ⟨b, e, A⟩
        · exact Or.inl e
        · have hb := A.1.1
          have dj := hmt g b hg (by omega) e
          obtain ⟨mm, X, W, HD⟩ := A.2.2
          refine Or.inr ⟨b, e, ⟨A.1.1, A.1.2.1, by rw [upd_n _ _ z]; exact A.1.2.2⟩, A.2.1, mm, X, W, HD_congr HD (fun i i1 i2 => Cout i (by omega)) (fun i i1 i2 => Mout i (by omega)) (fun j j1 j2 => Aout j (by omega))⟩
    · by_cases z : g = s
      · subst z
        rw [HAs] at eg
        rw [HAn k (fun q => hgk q.symm)] at ek
        have ea : a = b := (nI_eq (by omega) (by omega)).mp eg
        subst ea
        have := hmt k d hk hd2 ek
        omega
      · rw [HAn g z] at eg
        by_cases z2 : k = s
        · subst z2
          rw [HAs] at ek
          have ea : a = d := (nI_eq (by omega) (by omega)).mp ek
          subst ea
          have := hmt g b hg hb eg
          omega
        · rw [HAn k z2] at ek
          exact hH.2.1 g k b d hg hk hgk eg ek hb hd2
    · have o1 := hout s a hs (by omega) HAs
      rw [Cout i (by omega)]
      refine hH.2.2 i hi (fun g b hg hb e => ?_)
      have z : g ≠ s := fun q => by rw [q, hfree] at e; exact nI_m1 (by omega) e.symm
      exact hout g b hg hb (by rw [HAn g z]; exact e)
  · rw [T7, T9]
    show hx_Lnk (upd (σ 7) s (nI a)) (upd (σ 9) s 0) (upd (μ 21) a 1) (upd (μ 22) a 0)
    refine ⟨fun b hb => ?_, fun g b hg hb e => ?_, ?_⟩
    · by_cases z : b = a
      · subst z
        rw [upd_s]
        exact ⟨fun q => absurd q (by decide), fun q => absurd HAs (q s hs)⟩
      · rw [upd_n _ _ z]
        refine ⟨fun q g hg e => ?_, fun q => (hL.1 b hb).mpr (fun g hg e => ?_)⟩
        · by_cases y : g = s
          · subst y
            rw [HAs] at e
            exact z ((nI_eq (by omega) (by omega)).mp e).symm
          · rw [HAn g y] at e
            exact (hL.1 b hb).mp q g hg e
        · have y : g ≠ s := fun w => by rw [w, hfree] at e; exact nI_m1 (by omega) e.symm
          exact q g hg (by rw [HAn g y]; exact e)
    · by_cases y : g = s
      · subst y
        rw [HAs] at e
        have ea : a = b := (nI_eq (by omega) (by omega)).mp e
        subst ea
        rw [upd_s, upd_s]
      · rw [HAn g y] at e
        have z : b ≠ a := fun q => by rw [q] at e; exact nohk g hg e
        rw [upd_n _ _ y, upd_n _ _ z]
        exact hL.2.1 g b hg hb e
    · rw [cM_set (μ 21) 64 (by omega) hnh, cH_set (σ 7) 4 hs (by rw [hfree]; decide) (nI_pos (by omega)), hL.2.2]
theorem cpN_2 (σ : SG) (a k i : Nat) : (cpN σ a k) 2 i = if a ≤ i ∧ i < a + k then σ 1 i else σ 2 i := by
  induction k with
  | zero => rw [if_neg (by omega)]; rfl
  | succ k ih =>
    show upd ((cpN σ a k) 2) (a + k) (σ 1 (a + k)) i = _
    by_cases q : i = a + k
    · subst q
      rw [upd_s, if_pos (by omega)]
    · rw [upd_n _ _ q, ih]
      by_cases z : a ≤ i ∧ i < a + k
      · rw [if_pos z, if_pos (by omega)]
      · rw [if_neg z, if_neg (by omega)]
theorem unhook_inv {N s a : Nat} {σ μ : SG} (hI : hx_InvN N σ μ) (hs : s < 4) (ha : a < 64) (e7 : σ 7 s = nI a) : hx_InvN N (f_unh σ s a) (ss μ 21 a 0) := by
  obtain ⟨h1, h2, hp, hH, hL, h20, h9, h10⟩ := id hI
  have hN := h1.1
  have A := Hk_at hH hN hs e7 ha
  have l := hl_in (σ 1) a
  obtain ⟨T, eT⟩ : ∃ T, T = f_unh σ s a := ⟨_, rfl⟩
  rw [← eT]
  have en : (σ 8 s).toNatClampNeg = hl (σ 1) a := by rw [A.1.2.2]; exact nI_clamp (by omega)
  have eT2 : T = ss (cpN σ a (hl (σ 1) a)) 7 s (-1) := by rw [eT]; unfold f_unh; rw [en]
  have oth : ∀ c, c ≠ 2 → c ≠ 7 → T c = σ c := fun c c2 c7 => by
    rw [eT2]
    show (if c = 7 then _ else (cpN σ a (hl (σ 1) a)) c) = σ c
    rw [if_neg c7, cpN_o _ _ _ _ c2]
  have T7 : T 7 = upd (σ 7) s (-1) := by
    rw [eT2]
    show upd ((cpN σ a (hl (σ 1) a)) 7) s (-1) = _
    rw [cpN_o _ _ _ _ (by decide)]
  have T2 : ∀ i, T 2 i = if a ≤ i ∧ i < a + hl (σ 1) a then σ 1 i else σ 2 i := fun i => by
    rw [eT2]
    exact cpN_2 σ a _ i
  have HAs : upd (σ 7) s (-1) s = -1 := upd_s _ _ _
  have HAn : ∀ g, g ≠ s → upd (σ 7) s (-1) g = σ 7 g := fun g hg => upd_n _ _ hg
  have n21 : ¬ μ 21 a = 0 := fun q => (hL.1 a ha).mp q s hs e7
  refine ⟨⟨hN, by rw [oth 0 (by decide) (by decide)]; exact h1.2.1, h1.2.2⟩, ⟨by rw [oth 1 (by decide) (by decide)]; exact h2.1, by rw [oth 3 (by decide) (by decide)]; exact h2.2⟩, by rw [oth 1 (by decide) (by decide), oth 3 (by decide) (by decide)]; exact hp, ?_, ?_, by rw [oth 10 (by decide) (by decide)]; exact h20, by rw [oth 0 (by decide) (by decide)]; exact h9, by rw [oth 0 (by decide) (by decide)]; exact h10⟩
  · rw [oth 1 (by decide) (by decide), oth 3 (by decide) (by decide), oth 4 (by decide) (by decide), oth 5 (by decide) (by decide), oth 8 (by decide) (by decide), T7]
    refine ⟨fun g hg => ?_, fun g k b d hg hk hgk eg ek hb hd2 => ?_, fun i hi hout => ?_⟩
    · by_cases z : g = s
      · subst z; exact Or.inl HAs
      · rw [HAn g z]
        rcases hH.1 g hg with e | ⟨b, e, B⟩
        · exact Or.inl e
        · have hb := B.1.1
          have lb := hl_in (σ 1) b
          have dj := hH.2.1 g s b a hg hs z e e7 (by omega) ha
          obtain ⟨mm, X, W, HD⟩ := B.2.2
          exact Or.inr ⟨b, e, B.1, B.2.1, mm, X, W, HD_congr HD (fun i i1 i2 => by rw [T2 i, if_neg (by omega)]) (fun i i1 i2 => rfl) (fun j j1 j2 => rfl)⟩
    · have z : g ≠ s := fun q => by rw [q, HAs] at eg; exact nI_m1 (by omega) eg.symm
      have z2 : k ≠ s := fun q => by rw [q, HAs] at ek; exact nI_m1 (by omega) ek.symm
      rw [HAn g z] at eg
      rw [HAn k z2] at ek
      exact hH.2.1 g k b d hg hk hgk eg ek hb hd2
    · rw [T2 i]
      by_cases z : a ≤ i ∧ i < a + hl (σ 1) a
      · rw [if_pos z]
      · rw [if_neg z]
        refine hH.2.2 i hi (fun g b hg hb e => ?_)
        by_cases y : g = s
        · subst y
          have ea : a = b := (nI_eq (by omega) (by omega)).mp (e7.symm.trans e)
          rw [← ea]; exact z
        · exact hout g b hg hb (by rw [HAn g y]; exact e)
  · rw [oth 9 (by decide) (by decide), T7]
    show hx_Lnk (upd (σ 7) s (-1)) (σ 9) (upd (μ 21) a 0) (μ 22)
    refine ⟨fun b hb => ?_, fun g b hg hb e => ?_, ?_⟩
    · by_cases z : b = a
      · subst z
        rw [upd_s]
        refine ⟨fun _ g hg e => ?_, fun _ => rfl⟩
        by_cases y : g = s
        · subst y; rw [HAs] at e; exact nI_m1 (by omega) e.symm
        · rw [HAn g y] at e
          have := hH.2.1 g s b b hg hs y e e7 hb hb
          omega
      · rw [upd_n _ _ z]
        refine ⟨fun q g hg e => ?_, fun q => (hL.1 b hb).mpr (fun g hg e => ?_)⟩
        · by_cases y : g = s
          · subst y; rw [HAs] at e; exact nI_m1 (by omega) e.symm
          · rw [HAn g y] at e
            exact (hL.1 b hb).mp q g hg e
        · have y : g ≠ s := fun w => by
            rw [w, e7] at e
            exact z ((nI_eq (by omega) (by omega)).mp e).symm
          exact q g hg (by rw [HAn g y]; exact e)
    · have y : g ≠ s := fun q => by rw [q, HAs] at e; exact nI_m1 (by omega) e.symm
      rw [HAn g y] at e
      exact hL.2.1 g b hg hb e
    · have c1 := cM_clr (μ 21) 64 ha n21
      have c2 := cH_clr (σ 7) 4 hs (by rw [e7]; exact nI_pos (by omega))
      have c3 := hL.2.2
      grind
end
section
/-! ===== dh_Stp of hook and unhook; all methods ===== -/
theorem st_unhook {σ μ : SG} (h : hx_Inv σ μ) (v : Int32) : dh_Stp k_H_unhook k_M_unhook [.inl v] hx_Inv σ μ := by
  obtain ⟨N, h⟩ := h
  by_cases c1 : v < 0
  · have cM1 := c_M_unhook σ μ v
    unfold m_unhookR m_unhookS at cM1
    rw [if_pos c1, if_pos c1] at cM1
    exact ⟨_, _, _, c_H_unhook_bad σ μ v (Or.inl c1), cM1, ⟨N, h⟩⟩
  by_cases c2 : v < 64
  · have c3 : v ≤ 63 := by grind
    obtain ⟨a, ha, rfl⟩ := nI_of2 (n := 63) rfl c1 c3
    have hN := h.1.1
    have cH1 := c_H_unhook σ μ a (by omega) (fun g hg e => by
      have A := Hk_at h.2.2.2.1 hN hg e (by omega)
      have l := hl_in (σ 1) a
      have hd := h.2.2.1.1.head A.1.1 A.1.2.1
      exact ⟨hl (σ 1) a, A.1.2.2, by omega⟩)
    rcases slot_iff h (show a < 64 by omega) with ⟨q1, q2, q3⟩ | ⟨q1, s, q2, q3, q4⟩
    · have cM1 := c_M_unhook σ μ (nI a)
      unfold m_unhookR m_unhookS at cM1
      rw [if_neg c1, if_neg c1, if_pos c3, if_pos c3, nI_clamp (by omega), if_pos q1, if_pos q1] at cM1
      rw [q2, if_neg (by decide), if_neg (by decide)] at cH1
      exact ⟨_, _, _, cH1, cM1, ⟨N, h⟩⟩
    · rw [q3, if_pos (nI_pos' (by omega)), if_pos (nI_pos' (by omega)), nI_clamp (by omega)] at cH1
      have cM1 := c_M_unhook (f_unh σ s a) μ (nI a)
      unfold m_unhookR m_unhookS at cM1
      rw [if_neg c1, if_neg c1, if_pos c3, if_pos c3, nI_clamp (by omega), if_neg q1, if_neg q1] at cM1
      refine ⟨_, _, _, cH1, ?_, ⟨N, unhook_inv h q2 (by omega) q4⟩⟩
      rw [h.2.2.2.2.1.2.1 s a q2 (by omega) q4]
      exact cM1
  · have c3 : ¬ v ≤ 63 := by grind
    have cM1 := c_M_unhook σ μ v
    unfold m_unhookR m_unhookS at cM1
    rw [if_neg c1, if_neg c1, if_neg c3, if_neg c3] at cM1
    exact ⟨_, _, _, c_H_unhook_bad σ μ v (Or.inr c2), cM1, ⟨N, h⟩⟩
theorem mt_iff (σ : SG) (x m : Int32) (k : Nat) : mtN σ x m k = 0 ↔ ∀ h, h < k → σ 7 h < 0 ∨ σ 7 h + σ 8 h ≤ x ∨ x + m ≤ σ 7 h := by
  induction k with
  | zero => exact ⟨fun _ h hh => absurd hh (Nat.not_lt_zero h), fun _ => rfl⟩
  | succ k ih =>
    have ext : (∀ h, h < k + 1 → σ 7 h < 0 ∨ σ 7 h + σ 8 h ≤ x ∨ x + m ≤ σ 7 h) ↔ (∀ h, h < k → σ 7 h < 0 ∨ σ 7 h + σ 8 h ≤ x ∨ x + m ≤ σ 7 h) ∧ (σ 7 k < 0 ∨ σ 7 k + σ 8 k ≤ x ∨ x + m ≤ σ 7 k) := by
      refine ⟨fun q => ⟨fun h hh => q h (by omega), q k (by omega)⟩, fun q h hh => ?_⟩
      rcases Nat.lt_succ_iff_lt_or_eq.mp hh with z | z
      · exact q.1 h z
      · rw [z]; exact q.2
    rw [ext]
    show (if σ 7 k < 0 then mtN σ x m k else if σ 7 k + σ 8 k ≤ x then mtN σ x m k else if x + m ≤ σ 7 k then mtN σ x m k else 1) = 0 ↔ _
    by_cases c1 : σ 7 k < 0
    · rw [if_pos c1, ih]; exact ⟨fun q => ⟨q, Or.inl c1⟩, fun q => q.1⟩
    · rw [if_neg c1]
      by_cases c2 : σ 7 k + σ 8 k ≤ x
      · rw [if_pos c2, ih]; exact ⟨fun q => ⟨q, Or.inr (Or.inl c2)⟩, fun q => q.1⟩
      · rw [if_neg c2]
        by_cases c3 : x + m ≤ σ 7 k
        · rw [if_pos c3, ih]; exact ⟨fun q => ⟨q, Or.inr (Or.inr c3)⟩, fun q => q.1⟩
        · rw [if_neg c3]
          exact ⟨fun q => absurd q (by decide), fun q => (q.2.elim (fun z => absurd z c1) (fun z => z.elim (fun z => absurd z c2) (fun z => absurd z c3)))⟩
theorem am_iff (P S : Nat → Int32) (x m : Int32) (k : Nat) : amN P S x m k = 0 ↔ ∀ y, y < k → ¬ En P S x m y := by
  induction k with
  | zero => exact ⟨fun _ h hh => absurd hh (Nat.not_lt_zero h), fun _ => rfl⟩
  | succ k ih =>
    have ext : (∀ y, y < k + 1 → ¬ En P S x m y) ↔ (∀ y, y < k → ¬ En P S x m y) ∧ ¬ En P S x m k := by
      refine ⟨fun q => ⟨fun h hh => q h (by omega), q k (by omega)⟩, fun q h hh => ?_⟩
      rcases Nat.lt_succ_iff_lt_or_eq.mp hh with z | z
      · exact q.1 h z
      · rw [z]; exact q.2
    rw [ext, ← ih]
    show (if S k = 0 then amN P S x m k else if amN P S x m k = 0 then (if tgI P k ≤ x then 0 else if x + m ≤ tgI P k then 0 else 1) else 1) = 0 ↔ _
    by_cases c1 : S k = 0
    · rw [if_pos c1]
      exact ⟨fun q => ⟨q, fun z => z.1 c1⟩, fun q => q.1⟩
    · rw [if_neg c1]
      by_cases c2 : amN P S x m k = 0
      · rw [if_pos c2]
        by_cases c3 : tgI P k ≤ x
        · rw [if_pos c3]; exact ⟨fun _ => ⟨c2, fun z => z.2.1 c3⟩, fun _ => rfl⟩
        · rw [if_neg c3]
          by_cases c4 : x + m ≤ tgI P k
          · rw [if_pos c4]; exact ⟨fun _ => ⟨c2, fun z => z.2.2 c4⟩, fun _ => rfl⟩
          · rw [if_neg c4]; exact ⟨fun q => absurd q (by decide), fun q => absurd ⟨c1, c3, c4⟩ q.2⟩
      · rw [if_neg c2]; exact ⟨fun q => absurd q (by decide), fun q => absurd q.1 c2⟩
theorem ov_iff {N : Nat} {σ μ : SG} (hI : hx_InvN N σ μ) (x m : Int32) : mtN σ x m 4 = 0 ↔ ∀ y, y < 64 → ¬ Ov μ N x m y := by
  obtain ⟨h1, h2, hp, hH, hL, -⟩ := id hI
  have hN := h1.1
  rw [mt_iff]
  constructor
  · intro q y hy hov
    obtain ⟨o1, o2, o3⟩ := hov
    rcases slot_iff hI hy with ⟨z, -⟩ | ⟨-, s, hs, -, e⟩
    · exact o1 z
    · have A := Hk_at hH hN hs e hy
      have em : mhd (μ 17) (μ 18) N y = hl (σ 1) y := by
        unfold mhd
        rw [h2.1, h2.2, if_pos ⟨by have := A.1.1; omega, A.1.2.1⟩, if_pos A.1.1]
      rw [em] at o2
      have g := q s hs
      rw [e, A.1.2.2, nI_add] at g
      rcases g with g | g | g
      · exact nI_pos (by omega) g
      · exact o2 g
      · exact o3 g
  · intro q g hg
    rcases hH.1 g hg with e | ⟨b, e, A⟩
    · rw [e]; exact Or.inl (by decide)
    · have hb := A.1.1
      have em : mhd (μ 17) (μ 18) N b = hl (σ 1) b := by
        unfold mhd
        rw [h2.1, h2.2, if_pos ⟨by omega, A.1.2.1⟩, if_pos A.1.1]
      have n21 : ¬ μ 21 b = 0 := fun z => (hL.1 b (by omega)).mp z g hg e
      have nov := q b (by omega)
      rw [e, A.1.2.2, nI_add]
      by_cases c1 : nI (b + hl (σ 1) b) ≤ x
      · exact Or.inr (Or.inl c1)
      · by_cases c2 : x + m ≤ nI b
        · exact Or.inr (Or.inr c2)
        · exact absurd ⟨n21, by rw [em]; exact c1, c2⟩ nov
theorem st_hook {σ μ : SG} (h : hx_Inv σ μ) (v : Int32) : dh_Stp k_H_hook k_M_hook [.inl v] hx_Inv σ μ := by
  obtain ⟨N, h⟩ := h
  by_cases c1 : v < 0
  · exact ⟨_, _, _, c_H_hook_bad σ μ v (Or.inl c1), c_M_hook_bad σ μ v (Or.inl c1), ⟨N, h⟩⟩
  by_cases c2 : v < 64
  · have c3 : v ≤ 63 := by grind
    obtain ⟨a, ha, rfl⟩ := nI_of2 (n := 63) rfl c1 c3
    have ha : a < 64 := by omega
    obtain ⟨h1, h2, hp, hH, hL, h20, h9, h10⟩ := id h
    have hN := h1.1
    have cH1 := c_H_hook σ μ a N ha hN h1.2.1 hp.1
    have mC : Chn (μ 17) (μ 18) N := by rw [h2.1, h2.2]; exact hp.1
    have mG : Gap (μ 17) (μ 18) N := by rw [h2.1, h2.2]; exact hp.2.1
    rcases slot_iff h ha with ⟨q1, q2, q3⟩ | ⟨q1, s, q2, q3, q4⟩
    · rw [q2, if_pos (show (-1 : Int32) < 0 by decide), if_pos (show (-1 : Int32) < 0 by decide)] at cH1
      rcases slN_spec σ (-1) 4 with ⟨f1, f2⟩ | ⟨s, f1, f2, f3⟩
      · rw [f1, if_neg (show ¬ (0 : Int32) ≤ -1 by decide), if_neg (show ¬ (0 : Int32) ≤ -1 by decide)] at cH1
        have c4 : cntM μ 64 = 4 := by
          rw [inv_cnt h, cntH_eq]
          obtain ⟨k, k1, k2, k3, k4⟩ := cH_spec (σ 7) 4 (by decide)
          rw [k2, k4.mpr (fun g hg z => f2 g hg (Hk_m1 hN hH hg z))]
          rfl
        exact ⟨_, _, _, cH1, c_M_hook_full σ μ a N hN h1.2.2 mC mG ha q1 c4, ⟨N, h⟩⟩
      · rw [f2, if_pos (show (0 : Int32) ≤ nI s from nI_pos' (by omega)), if_pos (show (0 : Int32) ≤ nI s from nI_pos' (by omega)), nI_clamp (show s < 2 ^ 31 by omega), isStart_nI (by omega) hN h1.2.1] at cH1
        have c4 : ¬ cntM μ 64 = 4 := by
          rw [inv_cnt h, cntH_eq]
          obtain ⟨k, k1, k2, k3, k4⟩ := cH_spec (σ 7) 4 (by decide)
          rw [k2]
          intro z
          have : k = 4 := (nI_eq (b := 4) (by omega) (by decide)).mp z
          exact k4.mp this s f1 (by rw [f3]; decide)
        by_cases c5 : a < N ∧ ¬ σ 3 a = 0
        · rw [if_pos c5, if_neg (show ¬ (1 : Int32) = 0 by decide), if_neg (show ¬ (1 : Int32) = 0 by decide)] at cH1
          by_cases c6 : a + 3 ≤ N
          · rw [if_pos (nI_le c6 (by omega)), if_pos (nI_le c6 (by omega))] at cH1
            have l := hl_in (σ 1) a
            have em : mhd (μ 17) (μ 18) N a = hl (σ 1) a := by
              unfold mhd
              rw [h2.1, h2.2, if_pos c5, if_pos c6]
            have m0 : 0 < mhd (μ 17) (μ 18) N a := by rw [em]; omega
            have oi := ov_iff h (nI a) (nI (hl (σ 1) a))
            have ai := am_iff (σ 1) (σ 3) (nI a) (nI (hl (σ 1) a)) N
            by_cases c7 : mtN σ (nI a) (nI (hl (σ 1) a)) 4 = 0
            · rw [if_pos c7, if_pos c7] at cH1
              have nov := oi.mp c7
              by_cases c8 : amN (σ 1) (σ 3) (nI a) (nI (hl (σ 1) a)) N = 0
              · rw [if_pos c8, if_pos c8] at cH1
                have nen := ai.mp c8
                have cM1 := c_M_hook_ok (f_hook σ s a) μ a N hN h1.2.2 mC mG ha q1 c4 m0 (by rw [em]; exact nov) (by rw [em, h2.1, h2.2]; exact nen)
                rw [em] at cM1
                refine ⟨_, _, _, cH1, cM1, ⟨N, hook_inv h f1 f3 c6 c5.2 q1 (fun g b hg hb e => ?_) (fun x hx hsx => ?_)⟩⟩
                · have A := Hk_at hH hN hg e hb
                  have lb := hl_in (σ 1) b
                  have z := (mt_iff σ (nI a) (nI (hl (σ 1) a)) 4).mp c7 g hg
                  rw [e, A.1.2.2, nI_add, nI_add] at z
                  rcases z with z | z | z
                  · exact absurd z (nI_pos (by omega))
                  · exact Or.inl ((nI_leI (by omega) (by omega)).mp z)
                  · exact Or.inr ((nI_leI (by omega) (by omega)).mp z)
                · have z := nen x hx
                  by_cases t1 : tgI (σ 1) x ≤ nI a
                  · exact Or.inl t1
                  · refine Or.inr (Decidable.byContradiction (fun t2 => z ⟨hsx, t1, ?_⟩))
                    rw [nI_add]; exact t2
              · rw [if_neg c8, if_neg c8] at cH1
                have hen : ∃ y, y < N ∧ En (σ 1) (σ 3) (nI a) (nI (hl (σ 1) a)) y := Classical.byContradiction (fun z => c8 (ai.mpr (fun y hy e => z ⟨y, hy, e⟩)))
                exact ⟨_, _, _, cH1, c_M_hook_en σ μ a N hN h1.2.2 mC mG ha q1 c4 m0 (by rw [em]; exact nov) (by rw [em, h2.1, h2.2]; exact hen), ⟨N, h⟩⟩
            · rw [if_neg c7, if_neg c7] at cH1
              have hov : ∃ y, y < 64 ∧ Ov μ N (nI a) (nI (hl (σ 1) a)) y := Classical.byContradiction (fun z => c7 (oi.mpr (fun y hy e => z ⟨y, hy, e⟩)))
              exact ⟨_, _, _, cH1, c_M_hook_ov σ μ a N hN h1.2.2 mC mG ha q1 c4 m0 (by rw [em]; exact hov), ⟨N, h⟩⟩
          · rw [if_neg (fun z => c6 ((nI_leI (by omega) (by omega)).mp z)), if_neg (fun z => c6 ((nI_leI (by omega) (by omega)).mp z))] at cH1
            have em : mhd (μ 17) (μ 18) N a = 0 := by
              unfold mhd
              rw [h2.2, if_pos c5, if_neg c6]
            exact ⟨_, _, _, cH1, c_M_hook_nohead σ μ a N hN h1.2.2 mC mG ha q1 c4 em, ⟨N, h⟩⟩
        · rw [if_neg c5, if_pos (show (0 : Int32) = 0 from rfl), if_pos (show (0 : Int32) = 0 from rfl)] at cH1
          have em : mhd (μ 17) (μ 18) N a = 0 := by
            unfold mhd
            rw [h2.2, if_neg c5]
          exact ⟨_, _, _, cH1, c_M_hook_nohead σ μ a N hN h1.2.2 mC mG ha q1 c4 em, ⟨N, h⟩⟩
    · rw [q3, if_neg (show ¬ nI s < 0 from nI_pos (by omega)), if_neg (show ¬ nI s < 0 from nI_pos (by omega))] at cH1
      exact ⟨_, _, _, cH1, c_M_hook_hooked σ μ a N hN h1.2.2 mC mG ha q1, ⟨N, h⟩⟩
  · have c3 : ¬ v ≤ 63 := by grind
    exact ⟨_, _, _, c_H_hook_bad σ μ v (Or.inr c2), c_M_hook_bad σ μ v (Or.inr c3), ⟨N, h⟩⟩
theorem dh_all : dh_All hx_Inv := fun _ _ h => ⟨st_halt h, st_inc h, st_dec h, st_move h, st_jump h, st_branch h, st_call h, st_giveBack h, st_where h, st_length h, st_peek h, st_clear h, st_setRegister h, st_register h, st_hook h, st_unhook h, st_calls h, st_hooks h, st_run h, st_ending h, st_executed h⟩
end
section
theorem whole_start {p : Program} {e : Env} {s : State} {m : MethodId} {below : List Frame} {meth : Method} {c : Code} (l : Launch) {b L : Nat} {xs : Nat → Int32} (hL : L ≤ 1536) (C0 : lw_At p s m meth c b L xs) : W p l e room_1 s m #[Value.ref b] below meth c s.heap [] 0 0 (lw_Z below #[Value.ref b] s) (entryFrame m ([Value.ref b] : List Value).toArray 4) := by
  exact law_start dh_all s0_inv l hL C0
set_option maxHeartbeats 4000000 in
theorem lw_walk (l : Launch) (b : Addr) (xs : List Int32) : MetFree l x (headSpec (Jvm.Cond.code x code maxLocals ret :: tables_1) room_1) (lw_P b xs) (fun _ _ _ _ _ => True) lw_Q := by
  refine MetFree.of_bodyS (code := code) (maxLocals := maxLocals) (ret := ret) (by decide) ?_ ?_
  · intro args s m h hn
    obtain ⟨meth, c, h1, h2, h3, h4, h5, h6, -, -⟩ := Cond.code_spec hn (atoms_spec (ws := Jvm.Cond.code x code maxLocals ret :: tables_1) h _ List.mem_cons_self)
    exact ⟨meth, c, h1, h2, h3, h4, h5, h6⟩
  · intro p e s m args below meth c s₁ B hml0 hP _
    obtain ⟨rfl, hx, hbd, hgv⟩ := hP
    obtain ⟨scr, harrAt, hlist, hof, hsmall⟩ := hx
    obtain ⟨hcb, hkn, -, -⟩ := State.arrayAt?_spec harrAt
    have hown : s.vm.findClass R_law = some m.cls := findClass_of_methodNamed B.named
    have hts0 : ∀ c ∈ (Jvm.Cond.code x code maxLocals ret :: tables_1), c.before #[Value.ref b] s = true := atoms_spec (ws := Jvm.Cond.code x code maxLocals ret :: tables_1) B.pre
    have hts : ∀ w ∈ lw_tbl, w.before #[Value.ref b] s = true := k2_hts_sels lw_privs (fun w hw => hts0 w (List.mem_cons_of_mem _ hw)) lw_privs_ok
    have hml : c.maxLocals = 4 := B.maxLocals_eq (hts0 _ List.mem_cons_self)
    have X₀ : Stand p l e room_1 s m #[Value.ref b] below meth c s₁ [] 0 0 := Stand.of_body B
    have hh0 : s₁.heap = s.heap := by rw [B.state]; rfl
    have hsz : scr.slots.size = xs.length := by rw [← Array.length_toList, hlist, List.length_map]
    have hval : ∀ j : Nat, j < xs.length → scr.slots[j]? = some (.int (xs.getD j 0)) := fun j hj => by
      rw [← Array.getElem?_toList, hlist]
      simp [hj]
    have hbl : b < s.heap.size := (Array.getElem?_eq_some_iff.mp hcb).1
    have hX : va_X b xs.length (fun j => xs.getD j 0) s s.heap := ⟨scr, hcb, hof, hkn, hsz, hval⟩
    have K : W p l e room_1 s m #[Value.ref b] below meth c s₁.heap [] 0 0 (lw_Z below #[Value.ref b] s) (entryFrame m ([Value.ref b] : List Value).toArray 4) := by
      rw [hh0]
      exact whole_start l hbd ⟨B.exec, B.bytes, B.returns, hml, hown, hts, hX, hbl, B.notSynchronized, hgv⟩
    obtain ⟨t, a1, o, b1, b2, b3⟩ := K s₁ rfl X₀
    exact ⟨t, o, a1, b1, b2, b3⟩
theorem lw_pre_spec {args : Array Value} {s : State} (h : (Jvm.Cond.and given_1 narrow_1).before args s = true) (hr : rest_1_c.before args s = true) : ∃ (b : Addr) (xs : List Int32), lw_P b xs args s := by
  have hs := flat_of_before _ h
  have hq := flat_of_before _ hr
  have hc : (Cond.count 1).before args s = true := hs _ (by decide +kernel)
  have harr : (Cond.arrayOf (.arg 0) .int).before args s = true := hs _ (by decide +kernel)
  have hle : (Cond.le (.length (.arg 0)) (.int 1536)).before args s = true := hs _ (by decide +kernel)
  have hlen : (Cond.isInt (.length (.arg 0))).before args s = true := hq _ (by decide +kernel)
  have hall : (Cond.all (.arg 0) (.isInt (.elem (.arg 0) (.index 0)))).before args s = true := hq _ (by decide +kernel)
  obtain ⟨b, xs, hb, hx⟩ := State.ints_of_pre rfl harr hlen hall
  have hsm : xs.length < 2 ^ 31 := hx.choose_spec.2.2.2
  have hev : (Term.length (.arg 0)).eval args s none [] s = some (.int xs.length.toInt32) := hx.length_eval hb
  have hv := Cond.le_ints hev (show (Term.int 1536).eval args s none [] s = some (.int 1536) from rfl)
  have hd : xs.length.toInt32 ≤ 1536 := by
    simpa [Cond.before, Cond.holds, hv] using hle
  have hN : xs.length ≤ 1536 := (Int32.ofNat_le_ofNat hsm (by decide)).mp (show Int32.ofNat xs.length ≤ Int32.ofNat 1536 from hd)
  exact ⟨b, xs, Cond.one_arg hc (show args[0]? = some (.ref b) from hb), hx, hN, h⟩
theorem lw_comes (l : Launch) : Comes l x (Jvm.Cond.code x code maxLocals ret :: tables_1) room_1 (fun tb e args s => Calls_1 tb e args s ∧ rest_1 tb e args s ∧ Pre_1 tb e args s)
    (fun _ _ args s o t => lw_Q args s o t) := by
  intro p e ha hc hk s m args below hf hfit hheap happ hpre
  obtain ⟨b, xs, hP⟩ := lw_pre_spec hpre.2.2 hpre.2.1
  obtain ⟨k, o, h1, h2, h3, hQ⟩ := lw_walk l b xs p e ha hc hk s m args below hf ((Spec.applies_iff_loose hf).mp happ).1 hP trivial
  exact ⟨k, o, h1, h2, h3, hQ⟩
theorem lw_frame {s t : State} {o : Outcome} {args : Array Value} (h : Framed s o t [] 18 639) :
    Framed s o t (fieldLocs frame_1_writes args s ++ arrayLocs frame_1_arrays args s ++ staticLocs frame_1_statics s) 18 639 := h
theorem lw_limb (L : Cond) (hL : ∀ (args : Array Value) (s t : State), L.after args s (.returned (some (.int 1))) t = true) :
    ArmFor flags0 classFile x code maxLocals ret World_1 tables_1 room_1 Calls_1 rest_1 Pre_1
      (fun tb e a s o t => postC L tb e a s o t ∧ Framed s o t (fieldLocs frame_1_writes a s ++ arrayLocs frame_1_arrays a s ++ staticLocs frame_1_statics s) 18 639) := by
  intro l _ _ _ p e ha hc hk s m args below hf hfit hheap happ hpre
  obtain ⟨k, o, h1, h2, h3, rfl, hF⟩ := lw_comes l p e ha hc hk s m args below hf hfit hheap happ hpre
  exact ⟨k, _, h1, h2, h3, hL args s _, lw_frame hF⟩
theorem i_vc : Claimed_1_1 ∧ Claimed_1_2 := ⟨lw_limb limb_1_1 (fun args s t => by simp [limb_1_1, Cond.after, Cond.holds, Cond.value]), lw_limb limb_1_2 (fun args s t => Cond.after_iff.mpr (by
  first | (rw [show limb_1_2 = Cond.eq .result (.int 1) from rfl, Cond.eq_ints (x := 1) (y := 1) rfl rfl]; simp; done) | (simp [limb_1_2, Cond.value, Term.eval]; done)))⟩
end
