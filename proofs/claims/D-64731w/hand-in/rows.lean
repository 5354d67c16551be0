section
-- ===== PART A: goes FIRST, ahead of the names: the tables' words, and 'selects' of the private methods out of them =====
/-- a private method of a class that the tables say can be made, by its rows of tables_1 -/
def lw_okq (q : MethodName × Nat) : Prop := (q.1.cls ≠ "java/lang/invoke/MethodHandle" ∧ q.1.cls ≠ "java/lang/invoke/VarHandle") ∧ Cond.instantiable q.1.cls q.2 ∈ tables_1 ∧ Cond.privateMethod q.1 ∈ tables_1 ∧ Cond.instanceMethod q.1 ∈ tables_1
theorem lw_p0 : lw_okq (⟨"CoverRounds", "begin", "()V"⟩, 24) := ⟨⟨by decide +kernel, by decide +kernel⟩, List.mem_of_getElem? (i := 6) (by decide +kernel), List.mem_of_getElem? (i := 98) (by decide +kernel), List.mem_of_getElem? (i := 99) (by decide +kernel)⟩
theorem lw_p1 : lw_okq (⟨"CoverRounds", "isTransition", "(I)Z"⟩, 24) := ⟨⟨by decide +kernel, by decide +kernel⟩, List.mem_of_getElem? (i := 6) (by decide +kernel), List.mem_of_getElem? (i := 113) (by decide +kernel), List.mem_of_getElem? (i := 114) (by decide +kernel)⟩
theorem lw_p2 : lw_okq (⟨"CoverRounds", "isPlace", "(I)Z"⟩, 24) := ⟨⟨by decide +kernel, by decide +kernel⟩, List.mem_of_getElem? (i := 6) (by decide +kernel), List.mem_of_getElem? (i := 117) (by decide +kernel), List.mem_of_getElem? (i := 118) (by decide +kernel)⟩
theorem lw_p3 : lw_okq (⟨"CoverRounds", "canFire", "(I[II)Z"⟩, 24) := ⟨⟨by decide +kernel, by decide +kernel⟩, List.mem_of_getElem? (i := 6) (by decide +kernel), List.mem_of_getElem? (i := 129) (by decide +kernel), List.mem_of_getElem? (i := 130) (by decide +kernel)⟩
theorem lw_p4 : lw_okq (⟨"CoverRounds", "step", "(I[I)V"⟩, 24) := ⟨⟨by decide +kernel, by decide +kernel⟩, List.mem_of_getElem? (i := 6) (by decide +kernel), List.mem_of_getElem? (i := 133) (by decide +kernel), List.mem_of_getElem? (i := 134) (by decide +kernel)⟩
theorem lw_p5 : lw_okq (⟨"CoverRounds", "keep", "(I)V"⟩, 24) := ⟨⟨by decide +kernel, by decide +kernel⟩, List.mem_of_getElem? (i := 6) (by decide +kernel), List.mem_of_getElem? (i := 145) (by decide +kernel), List.mem_of_getElem? (i := 146) (by decide +kernel)⟩
theorem lw_p6 : lw_okq (⟨"CoverRounds", "isIn", "([I[SII)Z"⟩, 24) := ⟨⟨by decide +kernel, by decide +kernel⟩, List.mem_of_getElem? (i := 6) (by decide +kernel), List.mem_of_getElem? (i := 152) (by decide +kernel), List.mem_of_getElem? (i := 153) (by decide +kernel)⟩
theorem lw_p7 : lw_okq (⟨"CoverRounds", "go", "(I)Z"⟩, 24) := ⟨⟨by decide +kernel, by decide +kernel⟩, List.mem_of_getElem? (i := 6) (by decide +kernel), List.mem_of_getElem? (i := 156) (by decide +kernel), List.mem_of_getElem? (i := 157) (by decide +kernel)⟩
theorem lw_p8 : lw_okq (⟨"CoverRounds", "add", "()Z"⟩, 24) := ⟨⟨by decide +kernel, by decide +kernel⟩, List.mem_of_getElem? (i := 6) (by decide +kernel), List.mem_of_getElem? (i := 163) (by decide +kernel), List.mem_of_getElem? (i := 164) (by decide +kernel)⟩
theorem lw_p9 : lw_okq (⟨"CoverRounds", "isUnder", "(I)Z"⟩, 24) := ⟨⟨by decide +kernel, by decide +kernel⟩, List.mem_of_getElem? (i := 6) (by decide +kernel), List.mem_of_getElem? (i := 167) (by decide +kernel), List.mem_of_getElem? (i := 168) (by decide +kernel)⟩
theorem lw_p10 : lw_okq (⟨"CoverRounds", "find", "(I)V"⟩, 24) := ⟨⟨by decide +kernel, by decide +kernel⟩, List.mem_of_getElem? (i := 6) (by decide +kernel), List.mem_of_getElem? (i := 171) (by decide +kernel), List.mem_of_getElem? (i := 172) (by decide +kernel)⟩
theorem lw_p11 : lw_okq (⟨"CoverRounds", "leadsInto", "(II)Z"⟩, 24) := ⟨⟨by decide +kernel, by decide +kernel⟩, List.mem_of_getElem? (i := 6) (by decide +kernel), List.mem_of_getElem? (i := 175) (by decide +kernel), List.mem_of_getElem? (i := 176) (by decide +kernel)⟩
theorem lw_p12 : lw_okq (⟨"CoverRounds", "hang", "(I)Z"⟩, 24) := ⟨⟨by decide +kernel, by decide +kernel⟩, List.mem_of_getElem? (i := 6) (by decide +kernel), List.mem_of_getElem? (i := 196) (by decide +kernel), List.mem_of_getElem? (i := 197) (by decide +kernel)⟩
theorem lw_p13 : lw_okq (⟨"CoverRounds", "isAgain", "(I)Z"⟩, 24) := ⟨⟨by decide +kernel, by decide +kernel⟩, List.mem_of_getElem? (i := 6) (by decide +kernel), List.mem_of_getElem? (i := 200) (by decide +kernel), List.mem_of_getElem? (i := 201) (by decide +kernel)⟩
theorem lw_p14 : lw_okq (⟨"CoverRounds", "isAt", "(II)Z"⟩, 24) := ⟨⟨by decide +kernel, by decide +kernel⟩, List.mem_of_getElem? (i := 6) (by decide +kernel), List.mem_of_getElem? (i := 204) (by decide +kernel), List.mem_of_getElem? (i := 205) (by decide +kernel)⟩
theorem lw_p15 : lw_okq (⟨"CoverRounds", "expand", "(I)Z"⟩, 24) := ⟨⟨by decide +kernel, by decide +kernel⟩, List.mem_of_getElem? (i := 6) (by decide +kernel), List.mem_of_getElem? (i := 208) (by decide +kernel), List.mem_of_getElem? (i := 209) (by decide +kernel)⟩
def lw_privs_1 : List (MethodName × Nat) := [(⟨"CoverRounds", "begin", "()V"⟩, 24), (⟨"CoverRounds", "isTransition", "(I)Z"⟩, 24), (⟨"CoverRounds", "isPlace", "(I)Z"⟩, 24), (⟨"CoverRounds", "canFire", "(I[II)Z"⟩, 24), (⟨"CoverRounds", "step", "(I[I)V"⟩, 24), (⟨"CoverRounds", "keep", "(I)V"⟩, 24), (⟨"CoverRounds", "isIn", "([I[SII)Z"⟩, 24), (⟨"CoverRounds", "go", "(I)Z"⟩, 24), (⟨"CoverRounds", "add", "()Z"⟩, 24), (⟨"CoverRounds", "isUnder", "(I)Z"⟩, 24), (⟨"CoverRounds", "find", "(I)V"⟩, 24), (⟨"CoverRounds", "leadsInto", "(II)Z"⟩, 24), (⟨"CoverRounds", "hang", "(I)Z"⟩, 24), (⟨"CoverRounds", "isAgain", "(I)Z"⟩, 24), (⟨"CoverRounds", "isAt", "(II)Z"⟩, 24), (⟨"CoverRounds", "expand", "(I)Z"⟩, 24)]
theorem lw_r1 : ∀ q ∈ lw_privs_1, lw_okq q := List.forall_mem_cons.mpr ⟨lw_p0, List.forall_mem_cons.mpr ⟨lw_p1, List.forall_mem_cons.mpr ⟨lw_p2, List.forall_mem_cons.mpr ⟨lw_p3, List.forall_mem_cons.mpr ⟨lw_p4, List.forall_mem_cons.mpr ⟨lw_p5, List.forall_mem_cons.mpr ⟨lw_p6, List.forall_mem_cons.mpr ⟨lw_p7, List.forall_mem_cons.mpr ⟨lw_p8, List.forall_mem_cons.mpr ⟨lw_p9, List.forall_mem_cons.mpr ⟨lw_p10, List.forall_mem_cons.mpr ⟨lw_p11, List.forall_mem_cons.mpr ⟨lw_p12, List.forall_mem_cons.mpr ⟨lw_p13, List.forall_mem_cons.mpr ⟨lw_p14, List.forall_mem_cons.mpr ⟨lw_p15, fun _ h => absurd h List.not_mem_nil⟩⟩⟩⟩⟩⟩⟩⟩⟩⟩⟩⟩⟩⟩⟩⟩
theorem lw_p16 : lw_okq (⟨"CoverRounds", "accelerate", "(I)V"⟩, 24) := ⟨⟨by decide +kernel, by decide +kernel⟩, List.mem_of_getElem? (i := 6) (by decide +kernel), List.mem_of_getElem? (i := 213) (by decide +kernel), List.mem_of_getElem? (i := 214) (by decide +kernel)⟩
theorem lw_p17 : lw_okq (⟨"CoverRounds", "isBelow", "(I[I)Z"⟩, 24) := ⟨⟨by decide +kernel, by decide +kernel⟩, List.mem_of_getElem? (i := 6) (by decide +kernel), List.mem_of_getElem? (i := 217) (by decide +kernel), List.mem_of_getElem? (i := 218) (by decide +kernel)⟩
theorem lw_p18 : lw_okq (⟨"CoverRounds", "grows", "(I)Z"⟩, 24) := ⟨⟨by decide +kernel, by decide +kernel⟩, List.mem_of_getElem? (i := 6) (by decide +kernel), List.mem_of_getElem? (i := 221) (by decide +kernel), List.mem_of_getElem? (i := 222) (by decide +kernel)⟩
theorem lw_p19 : lw_okq (⟨"CoverRounds", "findTops", "()V"⟩, 24) := ⟨⟨by decide +kernel, by decide +kernel⟩, List.mem_of_getElem? (i := 6) (by decide +kernel), List.mem_of_getElem? (i := 225) (by decide +kernel), List.mem_of_getElem? (i := 226) (by decide +kernel)⟩
theorem lw_p20 : lw_okq (⟨"CoverRounds", "isLess", "(II)Z"⟩, 24) := ⟨⟨by decide +kernel, by decide +kernel⟩, List.mem_of_getElem? (i := 6) (by decide +kernel), List.mem_of_getElem? (i := 229) (by decide +kernel), List.mem_of_getElem? (i := 230) (by decide +kernel)⟩
theorem lw_p21 : lw_okq (⟨"CoverRounds", "isTree", "()Z"⟩, 24) := ⟨⟨by decide +kernel, by decide +kernel⟩, List.mem_of_getElem? (i := 6) (by decide +kernel), List.mem_of_getElem? (i := 237) (by decide +kernel), List.mem_of_getElem? (i := 238) (by decide +kernel)⟩
theorem lw_p22 : lw_okq (⟨"CoverRoundsModel", "begin", "()V"⟩, 27) := ⟨⟨by decide +kernel, by decide +kernel⟩, List.mem_of_getElem? (i := 260) (by decide +kernel), List.mem_of_getElem? (i := 356) (by decide +kernel), List.mem_of_getElem? (i := 357) (by decide +kernel)⟩
theorem lw_p23 : lw_okq (⟨"CoverRoundsModel", "isTransition", "(I)Z"⟩, 27) := ⟨⟨by decide +kernel, by decide +kernel⟩, List.mem_of_getElem? (i := 260) (by decide +kernel), List.mem_of_getElem? (i := 368) (by decide +kernel), List.mem_of_getElem? (i := 369) (by decide +kernel)⟩
theorem lw_p24 : lw_okq (⟨"CoverRoundsModel", "isPlace", "(I)Z"⟩, 27) := ⟨⟨by decide +kernel, by decide +kernel⟩, List.mem_of_getElem? (i := 260) (by decide +kernel), List.mem_of_getElem? (i := 372) (by decide +kernel), List.mem_of_getElem? (i := 373) (by decide +kernel)⟩
theorem lw_p25 : lw_okq (⟨"CoverRoundsModel", "takeIn", "()V"⟩, 27) := ⟨⟨by decide +kernel, by decide +kernel⟩, List.mem_of_getElem? (i := 260) (by decide +kernel), List.mem_of_getElem? (i := 384) (by decide +kernel), List.mem_of_getElem? (i := 385) (by decide +kernel)⟩
theorem lw_p26 : lw_okq (⟨"CoverRoundsModel", "isFirstIn", "()Z"⟩, 27) := ⟨⟨by decide +kernel, by decide +kernel⟩, List.mem_of_getElem? (i := 260) (by decide +kernel), List.mem_of_getElem? (i := 391) (by decide +kernel), List.mem_of_getElem? (i := 392) (by decide +kernel)⟩
theorem lw_p27 : lw_okq (⟨"CoverRoundsModel", "isSame", "()Z"⟩, 27) := ⟨⟨by decide +kernel, by decide +kernel⟩, List.mem_of_getElem? (i := 260) (by decide +kernel), List.mem_of_getElem? (i := 395) (by decide +kernel), List.mem_of_getElem? (i := 396) (by decide +kernel)⟩
theorem lw_p28 : lw_okq (⟨"CoverRoundsModel", "step", "()V"⟩, 27) := ⟨⟨by decide +kernel, by decide +kernel⟩, List.mem_of_getElem? (i := 260) (by decide +kernel), List.mem_of_getElem? (i := 399) (by decide +kernel), List.mem_of_getElem? (i := 400) (by decide +kernel)⟩
theorem lw_p29 : lw_okq (⟨"CoverRoundsModel", "tellRow", "()V"⟩, 27) := ⟨⟨by decide +kernel, by decide +kernel⟩, List.mem_of_getElem? (i := 260) (by decide +kernel), List.mem_of_getElem? (i := 403) (by decide +kernel), List.mem_of_getElem? (i := 404) (by decide +kernel)⟩
theorem lw_p30 : lw_okq (⟨"CoverRoundsModel", "leads", "([III)Z"⟩, 27) := ⟨⟨by decide +kernel, by decide +kernel⟩, List.mem_of_getElem? (i := 260) (by decide +kernel), List.mem_of_getElem? (i := 407) (by decide +kernel), List.mem_of_getElem? (i := 408) (by decide +kernel)⟩
theorem lw_p31 : lw_okq (⟨"CoverRoundsModel", "canFire", "([III)Z"⟩, 27) := ⟨⟨by decide +kernel, by decide +kernel⟩, List.mem_of_getElem? (i := 260) (by decide +kernel), List.mem_of_getElem? (i := 411) (by decide +kernel), List.mem_of_getElem? (i := 412) (by decide +kernel)⟩
def lw_privs_2 : List (MethodName × Nat) := [(⟨"CoverRounds", "accelerate", "(I)V"⟩, 24), (⟨"CoverRounds", "isBelow", "(I[I)Z"⟩, 24), (⟨"CoverRounds", "grows", "(I)Z"⟩, 24), (⟨"CoverRounds", "findTops", "()V"⟩, 24), (⟨"CoverRounds", "isLess", "(II)Z"⟩, 24), (⟨"CoverRounds", "isTree", "()Z"⟩, 24), (⟨"CoverRoundsModel", "begin", "()V"⟩, 27), (⟨"CoverRoundsModel", "isTransition", "(I)Z"⟩, 27), (⟨"CoverRoundsModel", "isPlace", "(I)Z"⟩, 27), (⟨"CoverRoundsModel", "takeIn", "()V"⟩, 27), (⟨"CoverRoundsModel", "isFirstIn", "()Z"⟩, 27), (⟨"CoverRoundsModel", "isSame", "()Z"⟩, 27), (⟨"CoverRoundsModel", "step", "()V"⟩, 27), (⟨"CoverRoundsModel", "tellRow", "()V"⟩, 27), (⟨"CoverRoundsModel", "leads", "([III)Z"⟩, 27), (⟨"CoverRoundsModel", "canFire", "([III)Z"⟩, 27)]
theorem lw_r2 : ∀ q ∈ lw_privs_2, lw_okq q := List.forall_mem_cons.mpr ⟨lw_p16, List.forall_mem_cons.mpr ⟨lw_p17, List.forall_mem_cons.mpr ⟨lw_p18, List.forall_mem_cons.mpr ⟨lw_p19, List.forall_mem_cons.mpr ⟨lw_p20, List.forall_mem_cons.mpr ⟨lw_p21, List.forall_mem_cons.mpr ⟨lw_p22, List.forall_mem_cons.mpr ⟨lw_p23, List.forall_mem_cons.mpr ⟨lw_p24, List.forall_mem_cons.mpr ⟨lw_p25, List.forall_mem_cons.mpr ⟨lw_p26, List.forall_mem_cons.mpr ⟨lw_p27, List.forall_mem_cons.mpr ⟨lw_p28, List.forall_mem_cons.mpr ⟨lw_p29, List.forall_mem_cons.mpr ⟨lw_p30, List.forall_mem_cons.mpr ⟨lw_p31, fun _ h => absurd h List.not_mem_nil⟩⟩⟩⟩⟩⟩⟩⟩⟩⟩⟩⟩⟩⟩⟩⟩
theorem lw_p32 : lw_okq (⟨"CoverRoundsModel", "isInRound", "([II)Z"⟩, 27) := ⟨⟨by decide +kernel, by decide +kernel⟩, List.mem_of_getElem? (i := 260) (by decide +kernel), List.mem_of_getElem? (i := 415) (by decide +kernel), List.mem_of_getElem? (i := 416) (by decide +kernel)⟩
theorem lw_p33 : lw_okq (⟨"CoverRoundsModel", "isOld", "(I)Z"⟩, 27) := ⟨⟨by decide +kernel, by decide +kernel⟩, List.mem_of_getElem? (i := 260) (by decide +kernel), List.mem_of_getElem? (i := 435) (by decide +kernel), List.mem_of_getElem? (i := 436) (by decide +kernel)⟩
theorem lw_p34 : lw_okq (⟨"CoverRoundsModel", "accelerate", "(I)V"⟩, 27) := ⟨⟨by decide +kernel, by decide +kernel⟩, List.mem_of_getElem? (i := 260) (by decide +kernel), List.mem_of_getElem? (i := 440) (by decide +kernel), List.mem_of_getElem? (i := 441) (by decide +kernel)⟩
theorem lw_p35 : lw_okq (⟨"CoverRoundsModel", "tellTree", "()V"⟩, 27) := ⟨⟨by decide +kernel, by decide +kernel⟩, List.mem_of_getElem? (i := 260) (by decide +kernel), List.mem_of_getElem? (i := 444) (by decide +kernel), List.mem_of_getElem? (i := 445) (by decide +kernel)⟩
theorem lw_p36 : lw_okq (⟨"CoverRoundsModel", "isBefore", "(II)Z"⟩, 27) := ⟨⟨by decide +kernel, by decide +kernel⟩, List.mem_of_getElem? (i := 260) (by decide +kernel), List.mem_of_getElem? (i := 448) (by decide +kernel), List.mem_of_getElem? (i := 449) (by decide +kernel)⟩
theorem lw_p37 : lw_okq (⟨"CoverRoundsModel", "isGrownPlace", "(I)Z"⟩, 27) := ⟨⟨by decide +kernel, by decide +kernel⟩, List.mem_of_getElem? (i := 260) (by decide +kernel), List.mem_of_getElem? (i := 456) (by decide +kernel), List.mem_of_getElem? (i := 457) (by decide +kernel)⟩
def lw_privs_3 : List (MethodName × Nat) := [(⟨"CoverRoundsModel", "isInRound", "([II)Z"⟩, 27), (⟨"CoverRoundsModel", "isOld", "(I)Z"⟩, 27), (⟨"CoverRoundsModel", "accelerate", "(I)V"⟩, 27), (⟨"CoverRoundsModel", "tellTree", "()V"⟩, 27), (⟨"CoverRoundsModel", "isBefore", "(II)Z"⟩, 27), (⟨"CoverRoundsModel", "isGrownPlace", "(I)Z"⟩, 27)]
theorem lw_r3 : ∀ q ∈ lw_privs_3, lw_okq q := List.forall_mem_cons.mpr ⟨lw_p32, List.forall_mem_cons.mpr ⟨lw_p33, List.forall_mem_cons.mpr ⟨lw_p34, List.forall_mem_cons.mpr ⟨lw_p35, List.forall_mem_cons.mpr ⟨lw_p36, List.forall_mem_cons.mpr ⟨lw_p37, fun _ h => absurd h List.not_mem_nil⟩⟩⟩⟩⟩⟩
def lw_privs : List (MethodName × Nat) := lw_privs_1 ++ (lw_privs_2 ++ (lw_privs_3))
def lw_tbl : List Cond := k2_sels lw_privs ++ tables_1
theorem lw_privs_ok : ∀ q ∈ lw_privs, lw_okq q := by
  show ∀ q ∈ lw_privs_1 ++ (lw_privs_2 ++ (lw_privs_3)), lw_okq q
  exact List.forall_mem_append.mpr ⟨lw_r1, List.forall_mem_append.mpr ⟨lw_r2, lw_r3⟩⟩
end
section
/-- the words that stay good along a call -/
def lw_g : List Cond := lw_tbl.filter goodWord
theorem mg {w : Cond} (h : w ∈ lw_tbl) (hg : goodWord w = true) : w ∈ lw_g := List.mem_filter.mpr ⟨h, hg⟩
/-! names of the two classes, their slots, their code; the words of the tables by place -/
def F_x : u_T := fun k => match k with
  | 0 => ("CoverRounds", "places", "I", false)
  | 1 => ("CoverRounds", "transitions", "I", false)
  | 2 => ("CoverRounds", "first", "[I", true)
  | 3 => ("CoverRounds", "now", "[I", true)
  | 4 => ("CoverRounds", "goal", "[I", true)
  | 5 => ("CoverRounds", "takes", "[B", true)
  | 6 => ("CoverRounds", "gives", "[B", true)
  | 7 => ("CoverRounds", "bases", "[S", true)
  | 8 => ("CoverRounds", "counts", "[I", true)
  | 9 => ("CoverRounds", "last", "I", false)
  | 10 => ("CoverRounds", "ended", "I", false)
  | 11 => ("CoverRounds", "made", "[S", true)
  | 12 => ("CoverRounds", "madeCount", "I", false)
  | 13 => ("CoverRounds", "work", "[I", true)
  | 14 => ("CoverRounds", "spare", "[I", true)
  | 15 => ("CoverRounds", "row", "[B", true)
  | 16 => ("CoverRounds", "marks", "[I", true)
  | 17 => ("CoverRounds", "above", "[S", true)
  | 18 => ("CoverRounds", "nodes", "I", false)
  | 19 => ("CoverRounds", "treePlaces", "I", false)
  | 20 => ("CoverRounds", "treeTransitions", "I", false)
  | 21 => ("CoverRounds", "tops", "[S", true)
  | 22 => ("CoverRounds", "topCount", "I", false)
  | _ => ("CoverRounds", "lives", "I", false)
def t_x : Nat → FieldType := fun k => match k with
  | 0 => .int
  | 1 => .int
  | 2 => .array .int
  | 3 => .array .int
  | 4 => .array .int
  | 5 => .array .byte
  | 6 => .array .byte
  | 7 => .array .short
  | 8 => .array .int
  | 9 => .int
  | 10 => .int
  | 11 => .array .short
  | 12 => .int
  | 13 => .array .int
  | 14 => .array .int
  | 15 => .array .byte
  | 16 => .array .int
  | 17 => .array .short
  | 18 => .int
  | 19 => .int
  | 20 => .int
  | 21 => .array .short
  | 22 => .int
  | _ => .int
def k_x : Nat → Nat := fun k => match k with
  | 0 => 0
  | 1 => 0
  | 2 => 1
  | 3 => 1
  | 4 => 1
  | 5 => 2
  | 6 => 2
  | 7 => 3
  | 8 => 1
  | 9 => 0
  | 10 => 0
  | 11 => 3
  | 12 => 0
  | 13 => 1
  | 14 => 1
  | 15 => 2
  | 16 => 1
  | 17 => 3
  | 18 => 0
  | 19 => 0
  | 20 => 0
  | 21 => 3
  | 22 => 0
  | 23 => 0
  | _ => 0
def n_x : Nat → Nat := fun k => match k with
  | 2 => 5
  | 3 => 5
  | 4 => 5
  | 5 => 30
  | 6 => 30
  | 7 => 61000
  | 8 => 61
  | 11 => 7010
  | 13 => 5
  | 14 => 5
  | 15 => 60
  | 16 => 5000
  | 17 => 1000
  | 21 => 1000
  | _ => 0
def i_x : Nat → Nat := fun k => match k with
  | 0 => 65
  | 1 => 68
  | 2 => 7
  | 3 => 13
  | 4 => 16
  | 5 => 19
  | 6 => 23
  | 7 => 27
  | 8 => 31
  | 9 => 34
  | 10 => 38
  | 11 => 41
  | 12 => 99
  | 13 => 44
  | 14 => 47
  | 15 => 50
  | 16 => 53
  | 17 => 56
  | 18 => 149
  | 19 => 164
  | 20 => 59
  | 21 => 62
  | 22 => 161
  | 23 => 152
  | _ => 0
def o_x : Nat → Nat := fun k => match k with
  | 2 => 1
  | 3 => 2
  | 4 => 3
  | 5 => 4
  | 6 => 5
  | 7 => 6
  | 8 => 7
  | 11 => 8
  | 13 => 9
  | 14 => 10
  | 15 => 11
  | 16 => 12
  | 17 => 13
  | 21 => 14
  | _ => 0
def F_m : u_T := fun k => match k with
  | 0 => ("CoverRoundsModel", "places", "I", false)
  | 1 => ("CoverRoundsModel", "first", "[I", true)
  | 2 => ("CoverRoundsModel", "target", "[I", true)
  | 3 => ("CoverRoundsModel", "transitions", "I", false)
  | 4 => ("CoverRoundsModel", "takes", "[I", true)
  | 5 => ("CoverRoundsModel", "gives", "[I", true)
  | 6 => ("CoverRoundsModel", "now", "[I", true)
  | 7 => ("CoverRoundsModel", "ended", "I", false)
  | 8 => ("CoverRoundsModel", "last", "I", false)
  | 9 => ("CoverRoundsModel", "roundPlaces", "I", false)
  | 10 => ("CoverRoundsModel", "leastCounts", "[I", true)
  | 11 => ("CoverRoundsModel", "kept", "[I", true)
  | 12 => ("CoverRoundsModel", "round", "[I", true)
  | 13 => ("CoverRoundsModel", "roundCount", "I", false)
  | 14 => ("CoverRoundsModel", "before", "[I", true)
  | 15 => ("CoverRoundsModel", "beforeCount", "I", false)
  | 16 => ("CoverRoundsModel", "rows", "[I", true)
  | 17 => ("CoverRoundsModel", "isGrown", "Z", false)
  | 18 => ("CoverRoundsModel", "grownPlaces", "I", false)
  | 19 => ("CoverRoundsModel", "nodes", "I", false)
  | 20 => ("CoverRoundsModel", "markings", "[I", true)
  | 21 => ("CoverRoundsModel", "above", "[I", true)
  | 22 => ("CoverRoundsModel", "lives", "I", false)
  | 23 => ("CoverRoundsModel", "limitCount", "I", false)
  | 24 => ("CoverRoundsModel", "limitNodes", "[I", true)
  | 25 => ("CoverRoundsModel", "work", "[I", true)
  | _ => ("CoverRoundsModel", "trail", "[I", true)
def t_m : Nat → FieldType := fun k => match k with
  | 0 => .int
  | 1 => .array .int
  | 2 => .array .int
  | 3 => .int
  | 4 => .array .int
  | 5 => .array .int
  | 6 => .array .int
  | 7 => .int
  | 8 => .int
  | 9 => .int
  | 10 => .array .int
  | 11 => .array .int
  | 12 => .array .int
  | 13 => .int
  | 14 => .array .int
  | 15 => .int
  | 16 => .array .int
  | 17 => .boolean
  | 18 => .int
  | 19 => .int
  | 20 => .array .int
  | 21 => .array .int
  | 22 => .int
  | 23 => .int
  | 24 => .array .int
  | 25 => .array .int
  | _ => .array .int
def k_m : Nat → Nat := fun k => match k with
  | 0 => 0
  | 1 => 1
  | 2 => 1
  | 3 => 0
  | 4 => 1
  | 5 => 1
  | 6 => 1
  | 7 => 0
  | 8 => 0
  | 9 => 0
  | 10 => 1
  | 11 => 1
  | 12 => 1
  | 13 => 0
  | 14 => 1
  | 15 => 0
  | 16 => 1
  | 17 => 0
  | 18 => 0
  | 19 => 0
  | 20 => 1
  | 21 => 1
  | 22 => 0
  | 23 => 0
  | 24 => 1
  | 25 => 1
  | 26 => 1
  | _ => 0
def n_m : Nat → Nat := fun k => match k with
  | 1 => 5
  | 2 => 5
  | 4 => 30
  | 5 => 30
  | 6 => 5
  | 10 => 61
  | 11 => 61000
  | 12 => 7500
  | 14 => 7500
  | 16 => 60
  | 20 => 5005
  | 21 => 1001
  | 24 => 1001
  | 25 => 5
  | 26 => 5
  | _ => 0
def i_m : Nat → Nat := fun k => match k with
  | 0 => 60
  | 1 => 7
  | 2 => 13
  | 3 => 63
  | 4 => 16
  | 5 => 19
  | 6 => 22
  | 7 => 25
  | 8 => 96
  | 9 => 93
  | 10 => 29
  | 11 => 33
  | 12 => 36
  | 13 => 80
  | 14 => 39
  | 15 => 87
  | 16 => 42
  | 17 => 124
  | 18 => 138
  | 19 => 128
  | 20 => 45
  | 21 => 48
  | 22 => 144
  | 23 => 147
  | 24 => 51
  | 25 => 54
  | 26 => 57
  | _ => 0
def o_m : Nat → Nat := fun k => match k with
  | 1 => 1
  | 2 => 2
  | 4 => 3
  | 5 => 4
  | 6 => 5
  | 10 => 6
  | 11 => 7
  | 12 => 8
  | 14 => 9
  | 16 => 10
  | 20 => 11
  | 21 => 12
  | 24 => 13
  | 25 => 14
  | 26 => 15
  | _ => 0
abbrev classes : List vw_C := [("CoverRounds", F_x, 24), ("CoverRoundsModel", F_m, 27)]
/-- a state of an object: an int field k is σ k 0, an array field k is σ k -/
abbrev XS : Type := Nat → Nat → Int32
def xC (g : Bool) : String := match g with
  | false => "CoverRounds"
  | true => "CoverRoundsModel"
def xT (g : Bool) : u_T := match g with
  | false => F_x
  | true => F_m
def xN (g : Bool) : Nat := match g with
  | false => 24
  | true => 27
def xci (g : Bool) : Nat := match g with
  | false => 0
  | true => 1
def xty (g : Bool) : Nat → FieldType := match g with
  | false => t_x
  | true => t_m
def xk (g : Bool) : Nat → Nat := match g with
  | false => k_x
  | true => k_m
def xlen (g : Bool) : Nat → Nat := match g with
  | false => n_x
  | true => n_m
def xix (g : Bool) : Nat → Nat := match g with
  | false => i_x
  | true => i_m
def xpos (g : Bool) : Nat → Nat := match g with
  | false => o_x
  | true => o_m
def xfs (g : Bool) (q : Nat → Nat) (σ : XS) : List Value := match g with
  | false => [.int (σ 0 0), .int (σ 1 0), .ref (q 2), .ref (q 3), .ref (q 4), .ref (q 5), .ref (q 6), .ref (q 7), .ref (q 8), .int (σ 9 0), .int (σ 10 0), .ref (q 11), .int (σ 12 0), .ref (q 13), .ref (q 14), .ref (q 15), .ref (q 16), .ref (q 17), .int (σ 18 0), .int (σ 19 0), .int (σ 20 0), .ref (q 21), .int (σ 22 0), .int (σ 23 0)]
  | true => [.int (σ 0 0), .ref (q 1), .ref (q 2), .int (σ 3 0), .ref (q 4), .ref (q 5), .ref (q 6), .int (σ 7 0), .int (σ 8 0), .int (σ 9 0), .ref (q 10), .ref (q 11), .ref (q 12), .int (σ 13 0), .ref (q 14), .int (σ 15 0), .ref (q 16), .int (σ 17 0), .int (σ 18 0), .int (σ 19 0), .ref (q 20), .ref (q 21), .int (σ 22 0), .int (σ 23 0), .ref (q 24), .ref (q 25), .ref (q 26)]
def xar (g : Bool) (q : Nat → Nat) (cA : Nat → ClassId) (σ : XS) : va_W := match g with
  | false => [(q 2, .inl (cA 2, 5, .inl (σ 2))), (q 3, .inl (cA 3, 5, .inl (σ 3))), (q 4, .inl (cA 4, 5, .inl (σ 4))), (q 5, .inl (cA 5, 30, .inl (σ 5))), (q 6, .inl (cA 6, 30, .inl (σ 6))), (q 7, .inl (cA 7, 61000, .inl (σ 7))), (q 8, .inl (cA 8, 61, .inl (σ 8))), (q 11, .inl (cA 11, 7010, .inl (σ 11))), (q 13, .inl (cA 13, 5, .inl (σ 13))), (q 14, .inl (cA 14, 5, .inl (σ 14))), (q 15, .inl (cA 15, 60, .inl (σ 15))), (q 16, .inl (cA 16, 5000, .inl (σ 16))), (q 17, .inl (cA 17, 1000, .inl (σ 17))), (q 21, .inl (cA 21, 1000, .inl (σ 21)))]
  | true => [(q 1, .inl (cA 1, 5, .inl (σ 1))), (q 2, .inl (cA 2, 5, .inl (σ 2))), (q 4, .inl (cA 4, 30, .inl (σ 4))), (q 5, .inl (cA 5, 30, .inl (σ 5))), (q 6, .inl (cA 6, 5, .inl (σ 6))), (q 10, .inl (cA 10, 61, .inl (σ 10))), (q 11, .inl (cA 11, 61000, .inl (σ 11))), (q 12, .inl (cA 12, 7500, .inl (σ 12))), (q 14, .inl (cA 14, 7500, .inl (σ 14))), (q 16, .inl (cA 16, 60, .inl (σ 16))), (q 20, .inl (cA 20, 5005, .inl (σ 20))), (q 21, .inl (cA 21, 1001, .inl (σ 21))), (q 24, .inl (cA 24, 1001, .inl (σ 24))), (q 25, .inl (cA 25, 5, .inl (σ 25))), (q 26, .inl (cA 26, 5, .inl (σ 26)))]
def xw (g : Bool) (q : Nat → Nat) (cA : Nat → ClassId) (σ : XS) : va_W := (q 0, .inr (xci g, xfs g q σ)) :: xar g q cA σ
def xtys (g : Bool) (cA : Nat → ClassId) : List (ClassId × FieldType) := match g with
  | false => [(cA 2, .int), (cA 3, .int), (cA 4, .int), (cA 5, .byte), (cA 6, .byte), (cA 7, .short), (cA 8, .int), (cA 11, .short), (cA 13, .int), (cA 14, .int), (cA 15, .byte), (cA 16, .int), (cA 17, .short), (cA 21, .short)]
  | true => [(cA 1, .int), (cA 2, .int), (cA 4, .int), (cA 5, .int), (cA 6, .int), (cA 10, .int), (cA 11, .int), (cA 12, .int), (cA 14, .int), (cA 16, .int), (cA 20, .int), (cA 21, .int), (cA 24, .int), (cA 25, .int), (cA 26, .int)]
theorem xw_0 (g : Bool) (q : Nat → Nat) (cA : Nat → ClassId) (σ : XS) : (xw g q cA σ)[0]? = some (q 0, .inr (xci g, xfs g q σ)) := rfl
theorem xw_ref_x (q : Nat → Nat) (cA : Nat → ClassId) (σ : XS) : ∀ (k : Nat), xk false k ≠ 0 → (xfs false q σ)[k]? = some (.ref (q k))
  | 0, h => absurd rfl h
  | 1, h => absurd rfl h
  | 2, _ => rfl
  | 3, _ => rfl
  | 4, _ => rfl
  | 5, _ => rfl
  | 6, _ => rfl
  | 7, _ => rfl
  | 8, _ => rfl
  | 9, h => absurd rfl h
  | 10, h => absurd rfl h
  | 11, _ => rfl
  | 12, h => absurd rfl h
  | 13, _ => rfl
  | 14, _ => rfl
  | 15, _ => rfl
  | 16, _ => rfl
  | 17, _ => rfl
  | 18, h => absurd rfl h
  | 19, h => absurd rfl h
  | 20, h => absurd rfl h
  | 21, _ => rfl
  | 22, h => absurd rfl h
  | 23, h => absurd rfl h
  | _ + 24, h => absurd rfl h
theorem xw_ref_m (q : Nat → Nat) (cA : Nat → ClassId) (σ : XS) : ∀ (k : Nat), xk true k ≠ 0 → (xfs true q σ)[k]? = some (.ref (q k))
  | 0, h => absurd rfl h
  | 1, _ => rfl
  | 2, _ => rfl
  | 3, h => absurd rfl h
  | 4, _ => rfl
  | 5, _ => rfl
  | 6, _ => rfl
  | 7, h => absurd rfl h
  | 8, h => absurd rfl h
  | 9, h => absurd rfl h
  | 10, _ => rfl
  | 11, _ => rfl
  | 12, _ => rfl
  | 13, h => absurd rfl h
  | 14, _ => rfl
  | 15, h => absurd rfl h
  | 16, _ => rfl
  | 17, h => absurd rfl h
  | 18, h => absurd rfl h
  | 19, h => absurd rfl h
  | 20, _ => rfl
  | 21, _ => rfl
  | 22, h => absurd rfl h
  | 23, h => absurd rfl h
  | 24, _ => rfl
  | 25, _ => rfl
  | 26, _ => rfl
  | _ + 27, h => absurd rfl h
theorem xw_ref (g : Bool) (q : Nat → Nat) (cA : Nat → ClassId) (σ : XS) (k : Nat) (h : xk g k ≠ 0) : (xfs g q σ)[k]? = some (.ref (q k)) := by
  cases g
  · exact xw_ref_x q cA σ k h
  · exact xw_ref_m q cA σ k h
theorem xw_arr_x (q : Nat → Nat) (cA : Nat → ClassId) (σ : XS) : ∀ (k : Nat), xk false k ≠ 0 → (xw false q cA σ)[xpos false k]? = some (q k, .inl (cA k, xlen false k, .inl (σ k)))
  | 0, h => absurd rfl h
  | 1, h => absurd rfl h
  | 2, _ => rfl
  | 3, _ => rfl
  | 4, _ => rfl
  | 5, _ => rfl
  | 6, _ => rfl
  | 7, _ => rfl
  | 8, _ => rfl
  | 9, h => absurd rfl h
  | 10, h => absurd rfl h
  | 11, _ => rfl
  | 12, h => absurd rfl h
  | 13, _ => rfl
  | 14, _ => rfl
  | 15, _ => rfl
  | 16, _ => rfl
  | 17, _ => rfl
  | 18, h => absurd rfl h
  | 19, h => absurd rfl h
  | 20, h => absurd rfl h
  | 21, _ => rfl
  | 22, h => absurd rfl h
  | 23, h => absurd rfl h
  | _ + 24, h => absurd rfl h
theorem xw_arr_m (q : Nat → Nat) (cA : Nat → ClassId) (σ : XS) : ∀ (k : Nat), xk true k ≠ 0 → (xw true q cA σ)[xpos true k]? = some (q k, .inl (cA k, xlen true k, .inl (σ k)))
  | 0, h => absurd rfl h
  | 1, _ => rfl
  | 2, _ => rfl
  | 3, h => absurd rfl h
  | 4, _ => rfl
  | 5, _ => rfl
  | 6, _ => rfl
  | 7, h => absurd rfl h
  | 8, h => absurd rfl h
  | 9, h => absurd rfl h
  | 10, _ => rfl
  | 11, _ => rfl
  | 12, _ => rfl
  | 13, h => absurd rfl h
  | 14, _ => rfl
  | 15, h => absurd rfl h
  | 16, _ => rfl
  | 17, h => absurd rfl h
  | 18, h => absurd rfl h
  | 19, h => absurd rfl h
  | 20, _ => rfl
  | 21, _ => rfl
  | 22, h => absurd rfl h
  | 23, h => absurd rfl h
  | 24, _ => rfl
  | 25, _ => rfl
  | 26, _ => rfl
  | _ + 27, h => absurd rfl h
theorem xw_arr (g : Bool) (q : Nat → Nat) (cA : Nat → ClassId) (σ : XS) (k : Nat) (h : xk g k ≠ 0) : (xw g q cA σ)[xpos g k]? = some (q k, .inl (cA k, xlen g k, .inl (σ k))) := by
  cases g
  · exact xw_arr_x q cA σ k h
  · exact xw_arr_m q cA σ k h
theorem xw_set_x (q : Nat → Nat) (cA : Nat → ClassId) (σ : XS) : ∀ (k : Nat), xk false k ≠ 0 → ∀ f : Nat → Int32, (xw false q cA σ).set (xpos false k) (q k, .inl (cA k, xlen false k, .inl f)) = xw false q cA (va_up σ k f)
  | 0, h => absurd rfl h
  | 1, h => absurd rfl h
  | 2, _ => fun _ => rfl
  | 3, _ => fun _ => rfl
  | 4, _ => fun _ => rfl
  | 5, _ => fun _ => rfl
  | 6, _ => fun _ => rfl
  | 7, _ => fun _ => rfl
  | 8, _ => fun _ => rfl
  | 9, h => absurd rfl h
  | 10, h => absurd rfl h
  | 11, _ => fun _ => rfl
  | 12, h => absurd rfl h
  | 13, _ => fun _ => rfl
  | 14, _ => fun _ => rfl
  | 15, _ => fun _ => rfl
  | 16, _ => fun _ => rfl
  | 17, _ => fun _ => rfl
  | 18, h => absurd rfl h
  | 19, h => absurd rfl h
  | 20, h => absurd rfl h
  | 21, _ => fun _ => rfl
  | 22, h => absurd rfl h
  | 23, h => absurd rfl h
  | _ + 24, h => absurd rfl h
theorem xw_set_m (q : Nat → Nat) (cA : Nat → ClassId) (σ : XS) : ∀ (k : Nat), xk true k ≠ 0 → ∀ f : Nat → Int32, (xw true q cA σ).set (xpos true k) (q k, .inl (cA k, xlen true k, .inl f)) = xw true q cA (va_up σ k f)
  | 0, h => absurd rfl h
  | 1, _ => fun _ => rfl
  | 2, _ => fun _ => rfl
  | 3, h => absurd rfl h
  | 4, _ => fun _ => rfl
  | 5, _ => fun _ => rfl
  | 6, _ => fun _ => rfl
  | 7, h => absurd rfl h
  | 8, h => absurd rfl h
  | 9, h => absurd rfl h
  | 10, _ => fun _ => rfl
  | 11, _ => fun _ => rfl
  | 12, _ => fun _ => rfl
  | 13, h => absurd rfl h
  | 14, _ => fun _ => rfl
  | 15, h => absurd rfl h
  | 16, _ => fun _ => rfl
  | 17, h => absurd rfl h
  | 18, h => absurd rfl h
  | 19, h => absurd rfl h
  | 20, _ => fun _ => rfl
  | 21, _ => fun _ => rfl
  | 22, h => absurd rfl h
  | 23, h => absurd rfl h
  | 24, _ => fun _ => rfl
  | 25, _ => fun _ => rfl
  | 26, _ => fun _ => rfl
  | _ + 27, h => absurd rfl h
theorem xw_set (g : Bool) (q : Nat → Nat) (cA : Nat → ClassId) (σ : XS) (k : Nat) (h : xk g k ≠ 0) : ∀ f : Nat → Int32, (xw g q cA σ).set (xpos g k) (q k, .inl (cA k, xlen g k, .inl f)) = xw g q cA (va_up σ k f) := by
  cases g
  · exact xw_set_x q cA σ k h
  · exact xw_set_m q cA σ k h
theorem xw_int_x (q : Nat → Nat) (cA : Nat → ClassId) (σ : XS) : ∀ (k : Nat), xk false k = 0 → k < 24 → (xfs false q σ)[k]? = some (.int (σ k 0))
  | 0, _, _ => rfl
  | 1, _, _ => rfl
  | 2, h, _ => absurd h (by decide)
  | 3, h, _ => absurd h (by decide)
  | 4, h, _ => absurd h (by decide)
  | 5, h, _ => absurd h (by decide)
  | 6, h, _ => absurd h (by decide)
  | 7, h, _ => absurd h (by decide)
  | 8, h, _ => absurd h (by decide)
  | 9, _, _ => rfl
  | 10, _, _ => rfl
  | 11, h, _ => absurd h (by decide)
  | 12, _, _ => rfl
  | 13, h, _ => absurd h (by decide)
  | 14, h, _ => absurd h (by decide)
  | 15, h, _ => absurd h (by decide)
  | 16, h, _ => absurd h (by decide)
  | 17, h, _ => absurd h (by decide)
  | 18, _, _ => rfl
  | 19, _, _ => rfl
  | 20, _, _ => rfl
  | 21, h, _ => absurd h (by decide)
  | 22, _, _ => rfl
  | 23, _, _ => rfl
  | _ + 24, _, h => absurd h (by omega)
theorem xw_int_m (q : Nat → Nat) (cA : Nat → ClassId) (σ : XS) : ∀ (k : Nat), xk true k = 0 → k < 27 → (xfs true q σ)[k]? = some (.int (σ k 0))
  | 0, _, _ => rfl
  | 1, h, _ => absurd h (by decide)
  | 2, h, _ => absurd h (by decide)
  | 3, _, _ => rfl
  | 4, h, _ => absurd h (by decide)
  | 5, h, _ => absurd h (by decide)
  | 6, h, _ => absurd h (by decide)
  | 7, _, _ => rfl
  | 8, _, _ => rfl
  | 9, _, _ => rfl
  | 10, h, _ => absurd h (by decide)
  | 11, h, _ => absurd h (by decide)
  | 12, h, _ => absurd h (by decide)
  | 13, _, _ => rfl
  | 14, h, _ => absurd h (by decide)
  | 15, _, _ => rfl
  | 16, h, _ => absurd h (by decide)
  | 17, _, _ => rfl
  | 18, _, _ => rfl
  | 19, _, _ => rfl
  | 20, h, _ => absurd h (by decide)
  | 21, h, _ => absurd h (by decide)
  | 22, _, _ => rfl
  | 23, _, _ => rfl
  | 24, h, _ => absurd h (by decide)
  | 25, h, _ => absurd h (by decide)
  | 26, h, _ => absurd h (by decide)
  | _ + 27, _, h => absurd h (by omega)
theorem xw_int (g : Bool) (q : Nat → Nat) (cA : Nat → ClassId) (σ : XS) (k : Nat) (h : xk g k = 0) (hk : k < xN g) : (xfs g q σ)[k]? = some (.int (σ k 0)) := by
  cases g
  · exact xw_int_x q cA σ k h hk
  · exact xw_int_m q cA σ k h hk
theorem xw_put_x (q : Nat → Nat) (cA : Nat → ClassId) (σ : XS) : ∀ (k : Nat), xk false k = 0 → k < 24 → ∀ v : Int32, (xw false q cA σ).set 0 (q 0, .inr (xci false, (xfs false q σ).set k (.int v))) = xw false q cA (va_up σ k (fun _ => v))
  | 0, _, _ => fun _ => rfl
  | 1, _, _ => fun _ => rfl
  | 2, h, _ => absurd h (by decide)
  | 3, h, _ => absurd h (by decide)
  | 4, h, _ => absurd h (by decide)
  | 5, h, _ => absurd h (by decide)
  | 6, h, _ => absurd h (by decide)
  | 7, h, _ => absurd h (by decide)
  | 8, h, _ => absurd h (by decide)
  | 9, _, _ => fun _ => rfl
  | 10, _, _ => fun _ => rfl
  | 11, h, _ => absurd h (by decide)
  | 12, _, _ => fun _ => rfl
  | 13, h, _ => absurd h (by decide)
  | 14, h, _ => absurd h (by decide)
  | 15, h, _ => absurd h (by decide)
  | 16, h, _ => absurd h (by decide)
  | 17, h, _ => absurd h (by decide)
  | 18, _, _ => fun _ => rfl
  | 19, _, _ => fun _ => rfl
  | 20, _, _ => fun _ => rfl
  | 21, h, _ => absurd h (by decide)
  | 22, _, _ => fun _ => rfl
  | 23, _, _ => fun _ => rfl
  | _ + 24, _, h => absurd h (by omega)
theorem xw_put_m (q : Nat → Nat) (cA : Nat → ClassId) (σ : XS) : ∀ (k : Nat), xk true k = 0 → k < 27 → ∀ v : Int32, (xw true q cA σ).set 0 (q 0, .inr (xci true, (xfs true q σ).set k (.int v))) = xw true q cA (va_up σ k (fun _ => v))
  | 0, _, _ => fun _ => rfl
  | 1, h, _ => absurd h (by decide)
  | 2, h, _ => absurd h (by decide)
  | 3, _, _ => fun _ => rfl
  | 4, h, _ => absurd h (by decide)
  | 5, h, _ => absurd h (by decide)
  | 6, h, _ => absurd h (by decide)
  | 7, _, _ => fun _ => rfl
  | 8, _, _ => fun _ => rfl
  | 9, _, _ => fun _ => rfl
  | 10, h, _ => absurd h (by decide)
  | 11, h, _ => absurd h (by decide)
  | 12, h, _ => absurd h (by decide)
  | 13, _, _ => fun _ => rfl
  | 14, h, _ => absurd h (by decide)
  | 15, _, _ => fun _ => rfl
  | 16, h, _ => absurd h (by decide)
  | 17, _, _ => fun _ => rfl
  | 18, _, _ => fun _ => rfl
  | 19, _, _ => fun _ => rfl
  | 20, h, _ => absurd h (by decide)
  | 21, h, _ => absurd h (by decide)
  | 22, _, _ => fun _ => rfl
  | 23, _, _ => fun _ => rfl
  | 24, h, _ => absurd h (by decide)
  | 25, h, _ => absurd h (by decide)
  | 26, h, _ => absurd h (by decide)
  | _ + 27, _, h => absurd h (by omega)
theorem xw_put (g : Bool) (q : Nat → Nat) (cA : Nat → ClassId) (σ : XS) (k : Nat) (h : xk g k = 0) (hk : k < xN g) : ∀ v : Int32, (xw g q cA σ).set 0 (q 0, .inr (xci g, (xfs g q σ).set k (.int v))) = xw g q cA (va_up σ k (fun _ => v)) := by
  cases g
  · exact xw_put_x q cA σ k h hk
  · exact xw_put_m q cA σ k h hk
theorem xty1_x (cA : Nat → ClassId) : ∀ (k : Nat), xk false k = 1 → (xtys false cA)[xpos false k - 1]? = some (cA k, .int)
  | 0, h => absurd h (by decide)
  | 1, h => absurd h (by decide)
  | 2, _ => rfl
  | 3, _ => rfl
  | 4, _ => rfl
  | 5, h => absurd h (by decide)
  | 6, h => absurd h (by decide)
  | 7, h => absurd h (by decide)
  | 8, _ => rfl
  | 9, h => absurd h (by decide)
  | 10, h => absurd h (by decide)
  | 11, h => absurd h (by decide)
  | 12, h => absurd h (by decide)
  | 13, _ => rfl
  | 14, _ => rfl
  | 15, h => absurd h (by decide)
  | 16, _ => rfl
  | 17, h => absurd h (by decide)
  | 18, h => absurd h (by decide)
  | 19, h => absurd h (by decide)
  | 20, h => absurd h (by decide)
  | 21, h => absurd h (by decide)
  | 22, h => absurd h (by decide)
  | 23, h => absurd h (by decide)
  | _ + 24, h => absurd h (by simp [xk, k_x])
theorem xty1_m (cA : Nat → ClassId) : ∀ (k : Nat), xk true k = 1 → (xtys true cA)[xpos true k - 1]? = some (cA k, .int)
  | 0, h => absurd h (by decide)
  | 1, _ => rfl
  | 2, _ => rfl
  | 3, h => absurd h (by decide)
  | 4, _ => rfl
  | 5, _ => rfl
  | 6, _ => rfl
  | 7, h => absurd h (by decide)
  | 8, h => absurd h (by decide)
  | 9, h => absurd h (by decide)
  | 10, _ => rfl
  | 11, _ => rfl
  | 12, _ => rfl
  | 13, h => absurd h (by decide)
  | 14, _ => rfl
  | 15, h => absurd h (by decide)
  | 16, _ => rfl
  | 17, h => absurd h (by decide)
  | 18, h => absurd h (by decide)
  | 19, h => absurd h (by decide)
  | 20, _ => rfl
  | 21, _ => rfl
  | 22, h => absurd h (by decide)
  | 23, h => absurd h (by decide)
  | 24, _ => rfl
  | 25, _ => rfl
  | 26, _ => rfl
  | _ + 27, h => absurd h (by simp [xk, k_m])
theorem xty1 (g : Bool) (cA : Nat → ClassId) (k : Nat) (h : xk g k = 1) : (xtys g cA)[xpos g k - 1]? = some (cA k, .int) := by
  cases g
  · exact xty1_x cA k h
  · exact xty1_m cA k h
theorem xty2_x (cA : Nat → ClassId) : ∀ (k : Nat), xk false k = 2 → (xtys false cA)[xpos false k - 1]? = some (cA k, .byte)
  | 0, h => absurd h (by decide)
  | 1, h => absurd h (by decide)
  | 2, h => absurd h (by decide)
  | 3, h => absurd h (by decide)
  | 4, h => absurd h (by decide)
  | 5, _ => rfl
  | 6, _ => rfl
  | 7, h => absurd h (by decide)
  | 8, h => absurd h (by decide)
  | 9, h => absurd h (by decide)
  | 10, h => absurd h (by decide)
  | 11, h => absurd h (by decide)
  | 12, h => absurd h (by decide)
  | 13, h => absurd h (by decide)
  | 14, h => absurd h (by decide)
  | 15, _ => rfl
  | 16, h => absurd h (by decide)
  | 17, h => absurd h (by decide)
  | 18, h => absurd h (by decide)
  | 19, h => absurd h (by decide)
  | 20, h => absurd h (by decide)
  | 21, h => absurd h (by decide)
  | 22, h => absurd h (by decide)
  | 23, h => absurd h (by decide)
  | _ + 24, h => absurd h (by simp [xk, k_x])
theorem xty2_m (cA : Nat → ClassId) : ∀ (k : Nat), xk true k = 2 → (xtys true cA)[xpos true k - 1]? = some (cA k, .byte)
  | 0, h => absurd h (by decide)
  | 1, h => absurd h (by decide)
  | 2, h => absurd h (by decide)
  | 3, h => absurd h (by decide)
  | 4, h => absurd h (by decide)
  | 5, h => absurd h (by decide)
  | 6, h => absurd h (by decide)
  | 7, h => absurd h (by decide)
  | 8, h => absurd h (by decide)
  | 9, h => absurd h (by decide)
  | 10, h => absurd h (by decide)
  | 11, h => absurd h (by decide)
  | 12, h => absurd h (by decide)
  | 13, h => absurd h (by decide)
  | 14, h => absurd h (by decide)
  | 15, h => absurd h (by decide)
  | 16, h => absurd h (by decide)
  | 17, h => absurd h (by decide)
  | 18, h => absurd h (by decide)
  | 19, h => absurd h (by decide)
  | 20, h => absurd h (by decide)
  | 21, h => absurd h (by decide)
  | 22, h => absurd h (by decide)
  | 23, h => absurd h (by decide)
  | 24, h => absurd h (by decide)
  | 25, h => absurd h (by decide)
  | 26, h => absurd h (by decide)
  | _ + 27, h => absurd h (by simp [xk, k_m])
theorem xty2 (g : Bool) (cA : Nat → ClassId) (k : Nat) (h : xk g k = 2) : (xtys g cA)[xpos g k - 1]? = some (cA k, .byte) := by
  cases g
  · exact xty2_x cA k h
  · exact xty2_m cA k h
theorem xty3_x (cA : Nat → ClassId) : ∀ (k : Nat), xk false k = 3 → (xtys false cA)[xpos false k - 1]? = some (cA k, .short)
  | 0, h => absurd h (by decide)
  | 1, h => absurd h (by decide)
  | 2, h => absurd h (by decide)
  | 3, h => absurd h (by decide)
  | 4, h => absurd h (by decide)
  | 5, h => absurd h (by decide)
  | 6, h => absurd h (by decide)
  | 7, _ => rfl
  | 8, h => absurd h (by decide)
  | 9, h => absurd h (by decide)
  | 10, h => absurd h (by decide)
  | 11, _ => rfl
  | 12, h => absurd h (by decide)
  | 13, h => absurd h (by decide)
  | 14, h => absurd h (by decide)
  | 15, h => absurd h (by decide)
  | 16, h => absurd h (by decide)
  | 17, _ => rfl
  | 18, h => absurd h (by decide)
  | 19, h => absurd h (by decide)
  | 20, h => absurd h (by decide)
  | 21, _ => rfl
  | 22, h => absurd h (by decide)
  | 23, h => absurd h (by decide)
  | _ + 24, h => absurd h (by simp [xk, k_x])
theorem xty3_m (cA : Nat → ClassId) : ∀ (k : Nat), xk true k = 3 → (xtys true cA)[xpos true k - 1]? = some (cA k, .short)
  | 0, h => absurd h (by decide)
  | 1, h => absurd h (by decide)
  | 2, h => absurd h (by decide)
  | 3, h => absurd h (by decide)
  | 4, h => absurd h (by decide)
  | 5, h => absurd h (by decide)
  | 6, h => absurd h (by decide)
  | 7, h => absurd h (by decide)
  | 8, h => absurd h (by decide)
  | 9, h => absurd h (by decide)
  | 10, h => absurd h (by decide)
  | 11, h => absurd h (by decide)
  | 12, h => absurd h (by decide)
  | 13, h => absurd h (by decide)
  | 14, h => absurd h (by decide)
  | 15, h => absurd h (by decide)
  | 16, h => absurd h (by decide)
  | 17, h => absurd h (by decide)
  | 18, h => absurd h (by decide)
  | 19, h => absurd h (by decide)
  | 20, h => absurd h (by decide)
  | 21, h => absurd h (by decide)
  | 22, h => absurd h (by decide)
  | 23, h => absurd h (by decide)
  | 24, h => absurd h (by decide)
  | 25, h => absurd h (by decide)
  | 26, h => absurd h (by decide)
  | _ + 27, h => absurd h (by simp [xk, k_m])
theorem xty3 (g : Bool) (cA : Nat → ClassId) (k : Nat) (h : xk g k = 3) : (xtys g cA)[xpos g k - 1]? = some (cA k, .short) := by
  cases g
  · exact xty3_x cA k h
  · exact xty3_m cA k h
theorem xcl (g : Bool) : classes[xci g]? = some (xC g, xT g, xN g) := by cases g <;> rfl
theorem xin_x : ∀ w ∈ u_ws "CoverRounds" F_x 24, w ∈ lw_g := by decide +kernel
theorem xin_m : ∀ w ∈ u_ws "CoverRoundsModel" F_m 27, w ∈ lw_g := by decide +kernel
theorem xin (g : Bool) : ∀ w ∈ u_ws (xC g) (xT g) (xN g), w ∈ lw_g := by
  cases g
  · exact xin_x
  · exact xin_m
theorem xtok_x : ∀ k, k < 24 → parseFieldDescriptor (F_x k).2.2.1 = some (t_x k) := by decide +kernel
theorem xtok_m : ∀ k, k < 27 → parseFieldDescriptor (F_m k).2.2.1 = some (t_m k) := by decide +kernel
theorem xtok (g : Bool) : ∀ k, k < xN g → parseFieldDescriptor (xT g k).2.2.1 = some (xty g k) := by
  cases g
  · exact xtok_x
  · exact xtok_m
theorem xnm_x : ∀ a, a < 24 → ∀ b, b < 24 → a ≠ b → (F_x a).2.1 ≠ (F_x b).2.1 := by decide +kernel
theorem xnm_m : ∀ a, a < 27 → ∀ b, b < 27 → a ≠ b → (F_m a).2.1 ≠ (F_m b).2.1 := by decide +kernel
theorem xnm (g : Bool) : ∀ a, a < xN g → ∀ b, b < xN g → a ≠ b → (xT g a).2.1 ≠ (xT g b).2.1 := by
  cases g
  · exact xnm_x
  · exact xnm_m
theorem xown_x : ∀ k, k < 24 → (F_x k).1 = "CoverRounds" := by decide +kernel
theorem xown_m : ∀ k, k < 27 → (F_m k).1 = "CoverRoundsModel" := by decide +kernel
theorem xown (g : Bool) : ∀ k, k < xN g → (xT g k).1 = (xC g) := by
  cases g
  · exact xown_x
  · exact xown_m
theorem xfl_x : ∀ k, k < 24 → Cond.fieldLink "CoverRounds" (i_x k) "CoverRounds" (F_x k).2.1 (F_x k).2.2.1 ∈ lw_g := by decide +kernel
theorem xfl_m : ∀ k, k < 27 → Cond.fieldLink "CoverRoundsModel" (i_m k) "CoverRoundsModel" (F_m k).2.1 (F_m k).2.2.1 ∈ lw_g := by decide +kernel
theorem xfl (g : Bool) : ∀ k, k < xN g → Cond.fieldLink (xC g) (xix g k) (xC g) (xT g k).2.1 (xT g k).2.2.1 ∈ lw_g := by
  cases g
  · exact xfl_x
  · exact xfl_m
theorem xfin_x : ∀ k, k < 24 → k_x k = 0 → (F_x k).2.2.2 = false := by decide +kernel
theorem xfin_m : ∀ k, k < 27 → k_m k = 0 → (F_m k).2.2.2 = false := by decide +kernel
theorem xfin (g : Bool) : ∀ k, k < xN g → xk g k = 0 → (xT g k).2.2.2 = false := by
  cases g
  · exact xfin_x
  · exact xfin_m
theorem xlen_lt (g : Bool) (k : Nat) : xlen g k < 100000 := by
  cases g
  · show n_x k < 100000
    unfold n_x
    split <;> decide
  · show n_m k < 100000
    unfold n_m
    split <;> decide
def y_x_init : MethodName := ⟨"CoverRounds", "<init>", "()V"⟩
abbrev b_x_init : ByteArray := prog_1_method_1_code
def y_x_isPlace : MethodName := ⟨"CoverRounds", "isPlace", "(I)Z"⟩
abbrev b_x_isPlace : ByteArray := prog_1_method_2_code
def y_x_isTransition : MethodName := ⟨"CoverRounds", "isTransition", "(I)Z"⟩
abbrev b_x_isTransition : ByteArray := prog_1_method_3_code
def y_x_isIn2 : MethodName := ⟨"CoverRounds", "isIn", "(II)Z"⟩
abbrev b_x_isIn2 : ByteArray := prog_1_method_4_code
def y_x_begin : MethodName := ⟨"CoverRounds", "begin", "()V"⟩
abbrev b_x_begin : ByteArray := prog_1_method_5_code
def y_x_place : MethodName := ⟨"CoverRounds", "place", "(I)I"⟩
abbrev b_x_place : ByteArray := prog_1_method_6_code
def y_x_transition : MethodName := ⟨"CoverRounds", "transition", "()I"⟩
abbrev b_x_transition : ByteArray := prog_1_method_7_code
def y_x_arc : MethodName := ⟨"CoverRounds", "arc", "(IIII)Z"⟩
abbrev b_x_arc : ByteArray := prog_1_method_8_code
def y_x_target : MethodName := ⟨"CoverRounds", "target", "(II)Z"⟩
abbrev b_x_target : ByteArray := prog_1_method_9_code
def y_x_canFire : MethodName := ⟨"CoverRounds", "canFire", "(I[II)Z"⟩
abbrev b_x_canFire : ByteArray := prog_1_method_10_code
def y_x_fire : MethodName := ⟨"CoverRounds", "fire", "(I)Z"⟩
abbrev b_x_fire : ByteArray := prog_1_method_11_code
def y_x_step : MethodName := ⟨"CoverRounds", "step", "(I[I)V"⟩
abbrev b_x_step : ByteArray := prog_1_method_12_code
def y_x_tokens : MethodName := ⟨"CoverRounds", "tokens", "(I)I"⟩
abbrev b_x_tokens : ByteArray := prog_1_method_13_code
def y_x_at : MethodName := ⟨"CoverRounds", "at", "(II)I"⟩
abbrev b_x_at : ByteArray := prog_1_method_14_code
def y_x_isIn4 : MethodName := ⟨"CoverRounds", "isIn", "([I[SII)Z"⟩
abbrev b_x_isIn4 : ByteArray := prog_1_method_15_code
def y_x_isUnder : MethodName := ⟨"CoverRounds", "isUnder", "(I)Z"⟩
abbrev b_x_isUnder : ByteArray := prog_1_method_16_code
def y_x_add : MethodName := ⟨"CoverRounds", "add", "()Z"⟩
abbrev b_x_add : ByteArray := prog_1_method_17_code
def y_x_go : MethodName := ⟨"CoverRounds", "go", "(I)Z"⟩
abbrev b_x_go : ByteArray := prog_1_method_18_code
def y_x_keep : MethodName := ⟨"CoverRounds", "keep", "(I)V"⟩
abbrev b_x_keep : ByteArray := prog_1_method_19_code
def y_x_rounds : MethodName := ⟨"CoverRounds", "rounds", "()I"⟩
abbrev b_x_rounds : ByteArray := prog_1_method_20_code
def y_x_find : MethodName := ⟨"CoverRounds", "find", "(I)V"⟩
abbrev b_x_find : ByteArray := prog_1_method_21_code
def y_x_leadsInto : MethodName := ⟨"CoverRounds", "leadsInto", "(II)Z"⟩
abbrev b_x_leadsInto : ByteArray := prog_1_method_22_code
def y_x_steps : MethodName := ⟨"CoverRounds", "steps", "()I"⟩
abbrev b_x_steps : ByteArray := prog_1_method_23_code
def y_x_witness : MethodName := ⟨"CoverRounds", "witness", "(I)I"⟩
abbrev b_x_witness : ByteArray := prog_1_method_24_code
def y_x_least : MethodName := ⟨"CoverRounds", "least", "(I)I"⟩
abbrev b_x_least : ByteArray := prog_1_method_25_code
def y_x_isBelow : MethodName := ⟨"CoverRounds", "isBelow", "(I[I)Z"⟩
abbrev b_x_isBelow : ByteArray := prog_1_method_26_code
def y_x_isAt : MethodName := ⟨"CoverRounds", "isAt", "(II)Z"⟩
abbrev b_x_isAt : ByteArray := prog_1_method_27_code
def y_x_isAgain : MethodName := ⟨"CoverRounds", "isAgain", "(I)Z"⟩
abbrev b_x_isAgain : ByteArray := prog_1_method_28_code
def y_x_accelerate : MethodName := ⟨"CoverRounds", "accelerate", "(I)V"⟩
abbrev b_x_accelerate : ByteArray := prog_1_method_29_code
def y_x_grows : MethodName := ⟨"CoverRounds", "grows", "(I)Z"⟩
abbrev b_x_grows : ByteArray := prog_1_method_30_code
def y_x_hang : MethodName := ⟨"CoverRounds", "hang", "(I)Z"⟩
abbrev b_x_hang : ByteArray := prog_1_method_31_code
def y_x_expand : MethodName := ⟨"CoverRounds", "expand", "(I)Z"⟩
abbrev b_x_expand : ByteArray := prog_1_method_32_code
def y_x_grow : MethodName := ⟨"CoverRounds", "grow", "()I"⟩
abbrev b_x_grow : ByteArray := prog_1_method_33_code
def y_x_findTops : MethodName := ⟨"CoverRounds", "findTops", "()V"⟩
abbrev b_x_findTops : ByteArray := prog_1_method_34_code
def y_x_isLess : MethodName := ⟨"CoverRounds", "isLess", "(II)Z"⟩
abbrev b_x_isLess : ByteArray := prog_1_method_35_code
def y_x_isTree : MethodName := ⟨"CoverRounds", "isTree", "()Z"⟩
abbrev b_x_isTree : ByteArray := prog_1_method_36_code
def y_x_told : MethodName := ⟨"CoverRounds", "told", "(I)I"⟩
abbrev b_x_told : ByteArray := prog_1_method_37_code
def y_x_most : MethodName := ⟨"CoverRounds", "most", "(I)I"⟩
abbrev b_x_most : ByteArray := prog_1_method_38_code
def y_x_live : MethodName := ⟨"CoverRounds", "live", "(I)Z"⟩
abbrev b_x_live : ByteArray := prog_1_method_39_code
def y_x_limits : MethodName := ⟨"CoverRounds", "limits", "()I"⟩
abbrev b_x_limits : ByteArray := prog_1_method_40_code
def y_x_limit : MethodName := ⟨"CoverRounds", "limit", "(II)I"⟩
abbrev b_x_limit : ByteArray := prog_1_method_41_code
def y_x_covers : MethodName := ⟨"CoverRounds", "covers", "()Z"⟩
abbrev b_x_covers : ByteArray := prog_1_method_42_code
def y_m_init : MethodName := ⟨"CoverRoundsModel", "<init>", "()V"⟩
abbrev b_m_init : ByteArray := prog_3_method_1_code
def y_m_isPlace : MethodName := ⟨"CoverRoundsModel", "isPlace", "(I)Z"⟩
abbrev b_m_isPlace : ByteArray := prog_3_method_3_code
def y_m_isTransition : MethodName := ⟨"CoverRoundsModel", "isTransition", "(I)Z"⟩
abbrev b_m_isTransition : ByteArray := prog_3_method_4_code
def y_m_isIn2 : MethodName := ⟨"CoverRoundsModel", "isIn", "(II)Z"⟩
abbrev b_m_isIn2 : ByteArray := prog_3_method_5_code
def y_m_begin : MethodName := ⟨"CoverRoundsModel", "begin", "()V"⟩
abbrev b_m_begin : ByteArray := prog_3_method_6_code
def y_m_place : MethodName := ⟨"CoverRoundsModel", "place", "(I)I"⟩
abbrev b_m_place : ByteArray := prog_3_method_7_code
def y_m_transition : MethodName := ⟨"CoverRoundsModel", "transition", "()I"⟩
abbrev b_m_transition : ByteArray := prog_3_method_8_code
def y_m_arc : MethodName := ⟨"CoverRoundsModel", "arc", "(IIII)Z"⟩
abbrev b_m_arc : ByteArray := prog_3_method_9_code
def y_m_target : MethodName := ⟨"CoverRoundsModel", "target", "(II)Z"⟩
abbrev b_m_target : ByteArray := prog_3_method_10_code
def y_m_tops : MethodName := ⟨"CoverRoundsModel", "tops", "([II[II)Z"⟩
abbrev b_m_tops : ByteArray := prog_3_method_11_code
def y_m_takeIn : MethodName := ⟨"CoverRoundsModel", "takeIn", "()V"⟩
abbrev b_m_takeIn : ByteArray := prog_3_method_12_code
def y_m_isInRound : MethodName := ⟨"CoverRoundsModel", "isInRound", "([II)Z"⟩
abbrev b_m_isInRound : ByteArray := prog_3_method_13_code
def y_m_isFirstIn : MethodName := ⟨"CoverRoundsModel", "isFirstIn", "()Z"⟩
abbrev b_m_isFirstIn : ByteArray := prog_3_method_14_code
def y_m_step : MethodName := ⟨"CoverRoundsModel", "step", "()V"⟩
abbrev b_m_step : ByteArray := prog_3_method_15_code
def y_m_isSame : MethodName := ⟨"CoverRoundsModel", "isSame", "()Z"⟩
abbrev b_m_isSame : ByteArray := prog_3_method_16_code
def y_m_rounds : MethodName := ⟨"CoverRoundsModel", "rounds", "()I"⟩
abbrev b_m_rounds : ByteArray := prog_3_method_17_code
def y_m_tellRow : MethodName := ⟨"CoverRoundsModel", "tellRow", "()V"⟩
abbrev b_m_tellRow : ByteArray := prog_3_method_18_code
def y_m_canFire : MethodName := ⟨"CoverRoundsModel", "canFire", "([III)Z"⟩
abbrev b_m_canFire : ByteArray := prog_3_method_19_code
def y_m_leads : MethodName := ⟨"CoverRoundsModel", "leads", "([III)Z"⟩
abbrev b_m_leads : ByteArray := prog_3_method_20_code
def y_m_steps : MethodName := ⟨"CoverRoundsModel", "steps", "()I"⟩
abbrev b_m_steps : ByteArray := prog_3_method_21_code
def y_m_witness : MethodName := ⟨"CoverRoundsModel", "witness", "(I)I"⟩
abbrev b_m_witness : ByteArray := prog_3_method_22_code
def y_m_least : MethodName := ⟨"CoverRoundsModel", "least", "(I)I"⟩
abbrev b_m_least : ByteArray := prog_3_method_23_code
def y_m_isOld : MethodName := ⟨"CoverRoundsModel", "isOld", "(I)Z"⟩
abbrev b_m_isOld : ByteArray := prog_3_method_24_code
def y_m_accelerate : MethodName := ⟨"CoverRoundsModel", "accelerate", "(I)V"⟩
abbrev b_m_accelerate : ByteArray := prog_3_method_25_code
def y_m_grow : MethodName := ⟨"CoverRoundsModel", "grow", "()I"⟩
abbrev b_m_grow : ByteArray := prog_3_method_26_code
def y_m_tellTree : MethodName := ⟨"CoverRoundsModel", "tellTree", "()V"⟩
abbrev b_m_tellTree : ByteArray := prog_3_method_27_code
def y_m_isBefore : MethodName := ⟨"CoverRoundsModel", "isBefore", "(II)Z"⟩
abbrev b_m_isBefore : ByteArray := prog_3_method_28_code
def y_m_told : MethodName := ⟨"CoverRoundsModel", "told", "(I)I"⟩
abbrev b_m_told : ByteArray := prog_3_method_29_code
def y_m_isGrownPlace : MethodName := ⟨"CoverRoundsModel", "isGrownPlace", "(I)Z"⟩
abbrev b_m_isGrownPlace : ByteArray := prog_3_method_30_code
def y_m_most : MethodName := ⟨"CoverRoundsModel", "most", "(I)I"⟩
abbrev b_m_most : ByteArray := prog_3_method_31_code
def y_m_live : MethodName := ⟨"CoverRoundsModel", "live", "(I)Z"⟩
abbrev b_m_live : ByteArray := prog_3_method_32_code
def y_m_limits : MethodName := ⟨"CoverRoundsModel", "limits", "()I"⟩
abbrev b_m_limits : ByteArray := prog_3_method_33_code
def y_m_limit : MethodName := ⟨"CoverRoundsModel", "limit", "(II)I"⟩
abbrev b_m_limit : ByteArray := prog_3_method_34_code
def y_m_covers : MethodName := ⟨"CoverRoundsModel", "covers", "()Z"⟩
abbrev b_m_covers : ByteArray := prog_3_method_35_code
def y_m_fire : MethodName := ⟨"CoverRoundsModel", "fire", "(I)Z"⟩
abbrev b_m_fire : ByteArray := prog_3_method_36_code
def y_m_tokens : MethodName := ⟨"CoverRoundsModel", "tokens", "(I)I"⟩
abbrev b_m_tokens : ByteArray := prog_3_method_37_code
theorem good_tbl : ∀ w ∈ lw_g, (w.onTables && w.keeps) = true ∨ ∃ ty, w = .arrayClass ty := fun w hw => good_of_word (List.mem_filter.mp hw).2
/-- the words of a call of y, of class C, by entry idx of own -/
def xVw (own C : String) (idx : Nat) (y : MethodName) (b : ByteArray) (mL : Nat) (ret : Option FieldType) (n : Nat) : Prop := Cond.methodLink own idx y ∈ lw_g ∧ Cond.instanceMethod y ∈ lw_g ∧ Cond.selects C y y ∈ lw_g ∧ Cond.initialized C ∈ lw_g ∧ Cond.code y b mL ret ∈ lw_g ∧ y.cls = C ∧ y.cls ≠ "java/lang/invoke/MethodHandle" ∧ y.cls ≠ "java/lang/invoke/VarHandle" ∧ (parseMethodDescriptor y.desc).map (fun d => d.parameters.length) = some n
def xSw (own C : String) (idx : Nat) (y : MethodName) (b : ByteArray) (mL : Nat) (ret : Option FieldType) (n : Nat) : Prop := Cond.methodLink own idx y ∈ lw_g ∧ Cond.static y ∈ lw_g ∧ Cond.initialized C ∈ lw_g ∧ Cond.code y b mL ret ∈ lw_g ∧ y.cls = C ∧ y.cls ≠ "java/lang/invoke/MethodHandle" ∧ y.cls ≠ "java/lang/invoke/VarHandle" ∧ (parseMethodDescriptor y.desc).map (fun d => d.parameters.length) = some n
set_option maxRecDepth 20000 in
theorem s_law_13 : xVw "CoverRoundsLaw" "CoverRounds" 13 y_x_place b_x_place 2 (some .int) 1 := ⟨mg (List.mem_of_getElem? (i := 128) rfl) rfl, mg (List.mem_of_getElem? (i := 129) rfl) rfl, mg (List.mem_of_getElem? (i := 130) rfl) rfl, mg (List.mem_of_getElem? (i := 39) rfl) rfl, mg (List.mem_of_getElem? (i := 131) rfl) rfl, rfl, by decide, by decide, by decide +kernel⟩
set_option maxRecDepth 20000 in
theorem s_x_77 : xSw "CoverRounds" "CoverRounds" 77 y_x_isIn2 b_x_isIn2 2 (some .boolean) 2 := ⟨mg (List.mem_of_getElem? (i := 132) rfl) rfl, mg (List.mem_of_getElem? (i := 133) rfl) rfl, mg (List.mem_of_getElem? (i := 39) rfl) rfl, mg (List.mem_of_getElem? (i := 134) rfl) rfl, rfl, by decide, by decide, by decide +kernel⟩
set_option maxRecDepth 20000 in
theorem s_x_81 : xVw "CoverRounds" "CoverRounds" 81 y_x_begin b_x_begin 1 none 0 := ⟨mg (List.mem_of_getElem? (i := 135) rfl) rfl, mg (List.mem_of_getElem? (i := 137) rfl) rfl, mg (List.mem_of_getElem? (i := 0) rfl) rfl, mg (List.mem_of_getElem? (i := 39) rfl) rfl, mg (List.mem_of_getElem? (i := 138) rfl) rfl, rfl, by decide, by decide, by decide +kernel⟩
set_option maxRecDepth 20000 in
theorem s_law_18 : xVw "CoverRoundsLaw" "CoverRounds" 18 y_x_transition b_x_transition 1 (some .int) 0 := ⟨mg (List.mem_of_getElem? (i := 142) rfl) rfl, mg (List.mem_of_getElem? (i := 143) rfl) rfl, mg (List.mem_of_getElem? (i := 144) rfl) rfl, mg (List.mem_of_getElem? (i := 39) rfl) rfl, mg (List.mem_of_getElem? (i := 145) rfl) rfl, rfl, by decide, by decide, by decide +kernel⟩
set_option maxRecDepth 20000 in
theorem s_law_23 : xVw "CoverRoundsLaw" "CoverRounds" 23 y_x_arc b_x_arc 5 (some .boolean) 4 := ⟨mg (List.mem_of_getElem? (i := 146) rfl) rfl, mg (List.mem_of_getElem? (i := 147) rfl) rfl, mg (List.mem_of_getElem? (i := 148) rfl) rfl, mg (List.mem_of_getElem? (i := 39) rfl) rfl, mg (List.mem_of_getElem? (i := 149) rfl) rfl, rfl, by decide, by decide, by decide +kernel⟩
set_option maxRecDepth 20000 in
theorem s_x_84 : xVw "CoverRounds" "CoverRounds" 84 y_x_isTransition b_x_isTransition 2 (some .boolean) 1 := ⟨mg (List.mem_of_getElem? (i := 150) rfl) rfl, mg (List.mem_of_getElem? (i := 152) rfl) rfl, mg (List.mem_of_getElem? (i := 1) rfl) rfl, mg (List.mem_of_getElem? (i := 39) rfl) rfl, mg (List.mem_of_getElem? (i := 153) rfl) rfl, rfl, by decide, by decide, by decide +kernel⟩
set_option maxRecDepth 20000 in
theorem s_x_88 : xVw "CoverRounds" "CoverRounds" 88 y_x_isPlace b_x_isPlace 2 (some .boolean) 1 := ⟨mg (List.mem_of_getElem? (i := 154) rfl) rfl, mg (List.mem_of_getElem? (i := 156) rfl) rfl, mg (List.mem_of_getElem? (i := 2) rfl) rfl, mg (List.mem_of_getElem? (i := 39) rfl) rfl, mg (List.mem_of_getElem? (i := 157) rfl) rfl, rfl, by decide, by decide, by decide +kernel⟩
set_option maxRecDepth 20000 in
theorem s_law_28 : xVw "CoverRoundsLaw" "CoverRounds" 28 y_x_target b_x_target 3 (some .boolean) 2 := ⟨mg (List.mem_of_getElem? (i := 158) rfl) rfl, mg (List.mem_of_getElem? (i := 159) rfl) rfl, mg (List.mem_of_getElem? (i := 160) rfl) rfl, mg (List.mem_of_getElem? (i := 39) rfl) rfl, mg (List.mem_of_getElem? (i := 161) rfl) rfl, rfl, by decide, by decide, by decide +kernel⟩
set_option maxRecDepth 20000 in
theorem s_law_76 : xVw "CoverRoundsLaw" "CoverRounds" 76 y_x_fire b_x_fire 2 (some .boolean) 1 := ⟨mg (List.mem_of_getElem? (i := 162) rfl) rfl, mg (List.mem_of_getElem? (i := 163) rfl) rfl, mg (List.mem_of_getElem? (i := 164) rfl) rfl, mg (List.mem_of_getElem? (i := 39) rfl) rfl, mg (List.mem_of_getElem? (i := 165) rfl) rfl, rfl, by decide, by decide, by decide +kernel⟩
set_option maxRecDepth 20000 in
theorem s_x_91 : xVw "CoverRounds" "CoverRounds" 91 y_x_canFire b_x_canFire 6 (some .boolean) 3 := ⟨mg (List.mem_of_getElem? (i := 166) rfl) rfl, mg (List.mem_of_getElem? (i := 168) rfl) rfl, mg (List.mem_of_getElem? (i := 3) rfl) rfl, mg (List.mem_of_getElem? (i := 39) rfl) rfl, mg (List.mem_of_getElem? (i := 169) rfl) rfl, rfl, by decide, by decide, by decide +kernel⟩
set_option maxRecDepth 20000 in
theorem s_x_95 : xVw "CoverRounds" "CoverRounds" 95 y_x_step b_x_step 4 none 2 := ⟨mg (List.mem_of_getElem? (i := 170) rfl) rfl, mg (List.mem_of_getElem? (i := 172) rfl) rfl, mg (List.mem_of_getElem? (i := 4) rfl) rfl, mg (List.mem_of_getElem? (i := 39) rfl) rfl, mg (List.mem_of_getElem? (i := 173) rfl) rfl, rfl, by decide, by decide, by decide +kernel⟩
set_option maxRecDepth 20000 in
theorem s_law_80 : xVw "CoverRoundsLaw" "CoverRounds" 80 y_x_tokens b_x_tokens 2 (some .int) 1 := ⟨mg (List.mem_of_getElem? (i := 174) rfl) rfl, mg (List.mem_of_getElem? (i := 175) rfl) rfl, mg (List.mem_of_getElem? (i := 176) rfl) rfl, mg (List.mem_of_getElem? (i := 39) rfl) rfl, mg (List.mem_of_getElem? (i := 177) rfl) rfl, rfl, by decide, by decide, by decide +kernel⟩
set_option maxRecDepth 20000 in
theorem s_law_33 : xVw "CoverRoundsLaw" "CoverRounds" 33 y_x_rounds b_x_rounds 4 (some .int) 0 := ⟨mg (List.mem_of_getElem? (i := 178) rfl) rfl, mg (List.mem_of_getElem? (i := 179) rfl) rfl, mg (List.mem_of_getElem? (i := 180) rfl) rfl, mg (List.mem_of_getElem? (i := 39) rfl) rfl, mg (List.mem_of_getElem? (i := 181) rfl) rfl, rfl, by decide, by decide, by decide +kernel⟩
set_option maxRecDepth 20000 in
theorem s_x_121 : xVw "CoverRounds" "CoverRounds" 121 y_x_keep b_x_keep 2 none 1 := ⟨mg (List.mem_of_getElem? (i := 182) rfl) rfl, mg (List.mem_of_getElem? (i := 184) rfl) rfl, mg (List.mem_of_getElem? (i := 5) rfl) rfl, mg (List.mem_of_getElem? (i := 39) rfl) rfl, mg (List.mem_of_getElem? (i := 185) rfl) rfl, rfl, by decide, by decide, by decide +kernel⟩
set_option maxRecDepth 20000 in
theorem s_x_108 : xSw "CoverRounds" "CoverRounds" 108 y_x_at b_x_at 2 (some .int) 2 := ⟨mg (List.mem_of_getElem? (i := 186) rfl) rfl, mg (List.mem_of_getElem? (i := 187) rfl) rfl, mg (List.mem_of_getElem? (i := 39) rfl) rfl, mg (List.mem_of_getElem? (i := 188) rfl) rfl, rfl, by decide, by decide, by decide +kernel⟩
set_option maxRecDepth 20000 in
theorem s_x_102 : xVw "CoverRounds" "CoverRounds" 102 y_x_isIn4 b_x_isIn4 8 (some .boolean) 4 := ⟨mg (List.mem_of_getElem? (i := 189) rfl) rfl, mg (List.mem_of_getElem? (i := 191) rfl) rfl, mg (List.mem_of_getElem? (i := 6) rfl) rfl, mg (List.mem_of_getElem? (i := 39) rfl) rfl, mg (List.mem_of_getElem? (i := 192) rfl) rfl, rfl, by decide, by decide, by decide +kernel⟩
set_option maxRecDepth 20000 in
theorem s_x_125 : xVw "CoverRounds" "CoverRounds" 125 y_x_go b_x_go 8 (some .boolean) 1 := ⟨mg (List.mem_of_getElem? (i := 193) rfl) rfl, mg (List.mem_of_getElem? (i := 195) rfl) rfl, mg (List.mem_of_getElem? (i := 7) rfl) rfl, mg (List.mem_of_getElem? (i := 39) rfl) rfl, mg (List.mem_of_getElem? (i := 196) rfl) rfl, rfl, by decide, by decide, by decide +kernel⟩
set_option maxRecDepth 20000 in
theorem s_x_117 : xVw "CoverRounds" "CoverRounds" 117 y_x_add b_x_add 3 (some .boolean) 0 := ⟨mg (List.mem_of_getElem? (i := 200) rfl) rfl, mg (List.mem_of_getElem? (i := 202) rfl) rfl, mg (List.mem_of_getElem? (i := 8) rfl) rfl, mg (List.mem_of_getElem? (i := 39) rfl) rfl, mg (List.mem_of_getElem? (i := 203) rfl) rfl, rfl, by decide, by decide, by decide +kernel⟩
set_option maxRecDepth 20000 in
theorem s_x_105 : xVw "CoverRounds" "CoverRounds" 105 y_x_isUnder b_x_isUnder 4 (some .boolean) 1 := ⟨mg (List.mem_of_getElem? (i := 204) rfl) rfl, mg (List.mem_of_getElem? (i := 206) rfl) rfl, mg (List.mem_of_getElem? (i := 9) rfl) rfl, mg (List.mem_of_getElem? (i := 39) rfl) rfl, mg (List.mem_of_getElem? (i := 207) rfl) rfl, rfl, by decide, by decide, by decide +kernel⟩
set_option maxRecDepth 20000 in
theorem s_x_128 : xVw "CoverRounds" "CoverRounds" 128 y_x_find b_x_find 4 none 1 := ⟨mg (List.mem_of_getElem? (i := 208) rfl) rfl, mg (List.mem_of_getElem? (i := 210) rfl) rfl, mg (List.mem_of_getElem? (i := 10) rfl) rfl, mg (List.mem_of_getElem? (i := 39) rfl) rfl, mg (List.mem_of_getElem? (i := 211) rfl) rfl, rfl, by decide, by decide, by decide +kernel⟩
set_option maxRecDepth 20000 in
theorem s_x_131 : xVw "CoverRounds" "CoverRounds" 131 y_x_leadsInto b_x_leadsInto 3 (some .boolean) 2 := ⟨mg (List.mem_of_getElem? (i := 212) rfl) rfl, mg (List.mem_of_getElem? (i := 214) rfl) rfl, mg (List.mem_of_getElem? (i := 11) rfl) rfl, mg (List.mem_of_getElem? (i := 39) rfl) rfl, mg (List.mem_of_getElem? (i := 215) rfl) rfl, rfl, by decide, by decide, by decide +kernel⟩
set_option maxRecDepth 20000 in
theorem s_law_37 : xVw "CoverRoundsLaw" "CoverRounds" 37 y_x_steps b_x_steps 1 (some .int) 0 := ⟨mg (List.mem_of_getElem? (i := 216) rfl) rfl, mg (List.mem_of_getElem? (i := 217) rfl) rfl, mg (List.mem_of_getElem? (i := 218) rfl) rfl, mg (List.mem_of_getElem? (i := 39) rfl) rfl, mg (List.mem_of_getElem? (i := 219) rfl) rfl, rfl, by decide, by decide, by decide +kernel⟩
set_option maxRecDepth 20000 in
theorem s_law_41 : xVw "CoverRoundsLaw" "CoverRounds" 41 y_x_witness b_x_witness 2 (some .int) 1 := ⟨mg (List.mem_of_getElem? (i := 220) rfl) rfl, mg (List.mem_of_getElem? (i := 221) rfl) rfl, mg (List.mem_of_getElem? (i := 222) rfl) rfl, mg (List.mem_of_getElem? (i := 39) rfl) rfl, mg (List.mem_of_getElem? (i := 223) rfl) rfl, rfl, by decide, by decide, by decide +kernel⟩
set_option maxRecDepth 20000 in
theorem s_x_134 : xVw "CoverRounds" "CoverRounds" 134 y_x_steps b_x_steps 1 (some .int) 0 := ⟨mg (List.mem_of_getElem? (i := 224) rfl) rfl, mg (List.mem_of_getElem? (i := 217) rfl) rfl, mg (List.mem_of_getElem? (i := 218) rfl) rfl, mg (List.mem_of_getElem? (i := 39) rfl) rfl, mg (List.mem_of_getElem? (i := 219) rfl) rfl, rfl, by decide, by decide, by decide +kernel⟩
set_option maxRecDepth 20000 in
theorem s_law_45 : xVw "CoverRoundsLaw" "CoverRounds" 45 y_x_least b_x_least 2 (some .int) 1 := ⟨mg (List.mem_of_getElem? (i := 225) rfl) rfl, mg (List.mem_of_getElem? (i := 226) rfl) rfl, mg (List.mem_of_getElem? (i := 227) rfl) rfl, mg (List.mem_of_getElem? (i := 39) rfl) rfl, mg (List.mem_of_getElem? (i := 228) rfl) rfl, rfl, by decide, by decide, by decide +kernel⟩
set_option maxRecDepth 20000 in
theorem s_law_49 : xVw "CoverRoundsLaw" "CoverRounds" 49 y_x_grow b_x_grow 3 (some .int) 0 := ⟨mg (List.mem_of_getElem? (i := 229) rfl) rfl, mg (List.mem_of_getElem? (i := 230) rfl) rfl, mg (List.mem_of_getElem? (i := 231) rfl) rfl, mg (List.mem_of_getElem? (i := 39) rfl) rfl, mg (List.mem_of_getElem? (i := 232) rfl) rfl, rfl, by decide, by decide, by decide +kernel⟩
set_option maxRecDepth 20000 in
theorem s_x_158 : xVw "CoverRounds" "CoverRounds" 158 y_x_hang b_x_hang 2 (some .boolean) 1 := ⟨mg (List.mem_of_getElem? (i := 233) rfl) rfl, mg (List.mem_of_getElem? (i := 235) rfl) rfl, mg (List.mem_of_getElem? (i := 12) rfl) rfl, mg (List.mem_of_getElem? (i := 39) rfl) rfl, mg (List.mem_of_getElem? (i := 236) rfl) rfl, rfl, by decide, by decide, by decide +kernel⟩
set_option maxRecDepth 20000 in
theorem s_x_167 : xVw "CoverRounds" "CoverRounds" 167 y_x_isAgain b_x_isAgain 3 (some .boolean) 1 := ⟨mg (List.mem_of_getElem? (i := 237) rfl) rfl, mg (List.mem_of_getElem? (i := 239) rfl) rfl, mg (List.mem_of_getElem? (i := 13) rfl) rfl, mg (List.mem_of_getElem? (i := 39) rfl) rfl, mg (List.mem_of_getElem? (i := 240) rfl) rfl, rfl, by decide, by decide, by decide +kernel⟩
set_option maxRecDepth 20000 in
theorem s_x_138 : xVw "CoverRounds" "CoverRounds" 138 y_x_isAt b_x_isAt 5 (some .boolean) 2 := ⟨mg (List.mem_of_getElem? (i := 241) rfl) rfl, mg (List.mem_of_getElem? (i := 243) rfl) rfl, mg (List.mem_of_getElem? (i := 14) rfl) rfl, mg (List.mem_of_getElem? (i := 39) rfl) rfl, mg (List.mem_of_getElem? (i := 244) rfl) rfl, rfl, by decide, by decide, by decide +kernel⟩
set_option maxRecDepth 20000 in
theorem s_x_170 : xVw "CoverRounds" "CoverRounds" 170 y_x_expand b_x_expand 6 (some .boolean) 1 := ⟨mg (List.mem_of_getElem? (i := 245) rfl) rfl, mg (List.mem_of_getElem? (i := 247) rfl) rfl, mg (List.mem_of_getElem? (i := 15) rfl) rfl, mg (List.mem_of_getElem? (i := 39) rfl) rfl, mg (List.mem_of_getElem? (i := 248) rfl) rfl, rfl, by decide, by decide, by decide +kernel⟩
set_option maxRecDepth 20000 in
theorem s_x_155 : xVw "CoverRounds" "CoverRounds" 155 y_x_accelerate b_x_accelerate 3 none 1 := ⟨mg (List.mem_of_getElem? (i := 250) rfl) rfl, mg (List.mem_of_getElem? (i := 252) rfl) rfl, mg (List.mem_of_getElem? (i := 16) rfl) rfl, mg (List.mem_of_getElem? (i := 39) rfl) rfl, mg (List.mem_of_getElem? (i := 253) rfl) rfl, rfl, by decide, by decide, by decide +kernel⟩
set_option maxRecDepth 20000 in
theorem s_x_141 : xVw "CoverRounds" "CoverRounds" 141 y_x_isBelow b_x_isBelow 6 (some .boolean) 2 := ⟨mg (List.mem_of_getElem? (i := 254) rfl) rfl, mg (List.mem_of_getElem? (i := 256) rfl) rfl, mg (List.mem_of_getElem? (i := 17) rfl) rfl, mg (List.mem_of_getElem? (i := 39) rfl) rfl, mg (List.mem_of_getElem? (i := 257) rfl) rfl, rfl, by decide, by decide, by decide +kernel⟩
set_option maxRecDepth 20000 in
theorem s_x_145 : xVw "CoverRounds" "CoverRounds" 145 y_x_grows b_x_grows 4 (some .boolean) 1 := ⟨mg (List.mem_of_getElem? (i := 258) rfl) rfl, mg (List.mem_of_getElem? (i := 260) rfl) rfl, mg (List.mem_of_getElem? (i := 18) rfl) rfl, mg (List.mem_of_getElem? (i := 39) rfl) rfl, mg (List.mem_of_getElem? (i := 261) rfl) rfl, rfl, by decide, by decide, by decide +kernel⟩
set_option maxRecDepth 20000 in
theorem s_x_173 : xVw "CoverRounds" "CoverRounds" 173 y_x_findTops b_x_findTops 4 none 0 := ⟨mg (List.mem_of_getElem? (i := 262) rfl) rfl, mg (List.mem_of_getElem? (i := 264) rfl) rfl, mg (List.mem_of_getElem? (i := 19) rfl) rfl, mg (List.mem_of_getElem? (i := 39) rfl) rfl, mg (List.mem_of_getElem? (i := 265) rfl) rfl, rfl, by decide, by decide, by decide +kernel⟩
set_option maxRecDepth 20000 in
theorem s_x_176 : xVw "CoverRounds" "CoverRounds" 176 y_x_isLess b_x_isLess 4 (some .boolean) 2 := ⟨mg (List.mem_of_getElem? (i := 266) rfl) rfl, mg (List.mem_of_getElem? (i := 268) rfl) rfl, mg (List.mem_of_getElem? (i := 20) rfl) rfl, mg (List.mem_of_getElem? (i := 39) rfl) rfl, mg (List.mem_of_getElem? (i := 269) rfl) rfl, rfl, by decide, by decide, by decide +kernel⟩
set_option maxRecDepth 20000 in
theorem s_law_53 : xVw "CoverRoundsLaw" "CoverRounds" 53 y_x_most b_x_most 4 (some .int) 1 := ⟨mg (List.mem_of_getElem? (i := 270) rfl) rfl, mg (List.mem_of_getElem? (i := 271) rfl) rfl, mg (List.mem_of_getElem? (i := 272) rfl) rfl, mg (List.mem_of_getElem? (i := 39) rfl) rfl, mg (List.mem_of_getElem? (i := 273) rfl) rfl, rfl, by decide, by decide, by decide +kernel⟩
set_option maxRecDepth 20000 in
theorem s_x_179 : xVw "CoverRounds" "CoverRounds" 179 y_x_isTree b_x_isTree 1 (some .boolean) 0 := ⟨mg (List.mem_of_getElem? (i := 274) rfl) rfl, mg (List.mem_of_getElem? (i := 276) rfl) rfl, mg (List.mem_of_getElem? (i := 21) rfl) rfl, mg (List.mem_of_getElem? (i := 39) rfl) rfl, mg (List.mem_of_getElem? (i := 277) rfl) rfl, rfl, by decide, by decide, by decide +kernel⟩
set_option maxRecDepth 20000 in
theorem s_x_182 : xSw "CoverRounds" "CoverRounds" 182 y_x_told b_x_told 1 (some .int) 1 := ⟨mg (List.mem_of_getElem? (i := 278) rfl) rfl, mg (List.mem_of_getElem? (i := 279) rfl) rfl, mg (List.mem_of_getElem? (i := 39) rfl) rfl, mg (List.mem_of_getElem? (i := 280) rfl) rfl, rfl, by decide, by decide, by decide +kernel⟩
set_option maxRecDepth 20000 in
theorem s_law_57 : xVw "CoverRoundsLaw" "CoverRounds" 57 y_x_live b_x_live 2 (some .boolean) 1 := ⟨mg (List.mem_of_getElem? (i := 281) rfl) rfl, mg (List.mem_of_getElem? (i := 282) rfl) rfl, mg (List.mem_of_getElem? (i := 283) rfl) rfl, mg (List.mem_of_getElem? (i := 39) rfl) rfl, mg (List.mem_of_getElem? (i := 284) rfl) rfl, rfl, by decide, by decide, by decide +kernel⟩
set_option maxRecDepth 20000 in
theorem s_law_62 : xVw "CoverRoundsLaw" "CoverRounds" 62 y_x_limits b_x_limits 1 (some .int) 0 := ⟨mg (List.mem_of_getElem? (i := 285) rfl) rfl, mg (List.mem_of_getElem? (i := 286) rfl) rfl, mg (List.mem_of_getElem? (i := 287) rfl) rfl, mg (List.mem_of_getElem? (i := 39) rfl) rfl, mg (List.mem_of_getElem? (i := 288) rfl) rfl, rfl, by decide, by decide, by decide +kernel⟩
set_option maxRecDepth 20000 in
theorem s_law_66 : xVw "CoverRoundsLaw" "CoverRounds" 66 y_x_limit b_x_limit 4 (some .int) 2 := ⟨mg (List.mem_of_getElem? (i := 289) rfl) rfl, mg (List.mem_of_getElem? (i := 290) rfl) rfl, mg (List.mem_of_getElem? (i := 291) rfl) rfl, mg (List.mem_of_getElem? (i := 39) rfl) rfl, mg (List.mem_of_getElem? (i := 292) rfl) rfl, rfl, by decide, by decide, by decide +kernel⟩
set_option maxRecDepth 20000 in
theorem s_law_71 : xVw "CoverRoundsLaw" "CoverRounds" 71 y_x_covers b_x_covers 4 (some .boolean) 0 := ⟨mg (List.mem_of_getElem? (i := 293) rfl) rfl, mg (List.mem_of_getElem? (i := 294) rfl) rfl, mg (List.mem_of_getElem? (i := 295) rfl) rfl, mg (List.mem_of_getElem? (i := 39) rfl) rfl, mg (List.mem_of_getElem? (i := 296) rfl) rfl, rfl, by decide, by decide, by decide +kernel⟩
set_option maxRecDepth 20000 in
theorem s_law_17 : xVw "CoverRoundsLaw" "CoverRoundsModel" 17 y_m_place b_m_place 2 (some .int) 1 := ⟨mg (List.mem_of_getElem? (i := 386) rfl) rfl, mg (List.mem_of_getElem? (i := 387) rfl) rfl, mg (List.mem_of_getElem? (i := 388) rfl) rfl, mg (List.mem_of_getElem? (i := 40) rfl) rfl, mg (List.mem_of_getElem? (i := 389) rfl) rfl, rfl, by decide, by decide, by decide +kernel⟩
set_option maxRecDepth 20000 in
theorem s_m_66 : xSw "CoverRoundsModel" "CoverRoundsModel" 66 y_m_isIn2 b_m_isIn2 2 (some .boolean) 2 := ⟨mg (List.mem_of_getElem? (i := 390) rfl) rfl, mg (List.mem_of_getElem? (i := 391) rfl) rfl, mg (List.mem_of_getElem? (i := 40) rfl) rfl, mg (List.mem_of_getElem? (i := 392) rfl) rfl, rfl, by decide, by decide, by decide +kernel⟩
set_option maxRecDepth 20000 in
theorem s_m_70 : xVw "CoverRoundsModel" "CoverRoundsModel" 70 y_m_begin b_m_begin 2 none 0 := ⟨mg (List.mem_of_getElem? (i := 393) rfl) rfl, mg (List.mem_of_getElem? (i := 395) rfl) rfl, mg (List.mem_of_getElem? (i := 22) rfl) rfl, mg (List.mem_of_getElem? (i := 40) rfl) rfl, mg (List.mem_of_getElem? (i := 396) rfl) rfl, rfl, by decide, by decide, by decide +kernel⟩
set_option maxRecDepth 20000 in
theorem s_law_22 : xVw "CoverRoundsLaw" "CoverRoundsModel" 22 y_m_transition b_m_transition 1 (some .int) 0 := ⟨mg (List.mem_of_getElem? (i := 397) rfl) rfl, mg (List.mem_of_getElem? (i := 398) rfl) rfl, mg (List.mem_of_getElem? (i := 399) rfl) rfl, mg (List.mem_of_getElem? (i := 40) rfl) rfl, mg (List.mem_of_getElem? (i := 400) rfl) rfl, rfl, by decide, by decide, by decide +kernel⟩
set_option maxRecDepth 20000 in
theorem s_law_27 : xVw "CoverRoundsLaw" "CoverRoundsModel" 27 y_m_arc b_m_arc 5 (some .boolean) 4 := ⟨mg (List.mem_of_getElem? (i := 401) rfl) rfl, mg (List.mem_of_getElem? (i := 402) rfl) rfl, mg (List.mem_of_getElem? (i := 403) rfl) rfl, mg (List.mem_of_getElem? (i := 40) rfl) rfl, mg (List.mem_of_getElem? (i := 404) rfl) rfl, rfl, by decide, by decide, by decide +kernel⟩
set_option maxRecDepth 20000 in
theorem s_m_73 : xVw "CoverRoundsModel" "CoverRoundsModel" 73 y_m_isTransition b_m_isTransition 2 (some .boolean) 1 := ⟨mg (List.mem_of_getElem? (i := 405) rfl) rfl, mg (List.mem_of_getElem? (i := 407) rfl) rfl, mg (List.mem_of_getElem? (i := 23) rfl) rfl, mg (List.mem_of_getElem? (i := 40) rfl) rfl, mg (List.mem_of_getElem? (i := 408) rfl) rfl, rfl, by decide, by decide, by decide +kernel⟩
set_option maxRecDepth 20000 in
theorem s_m_77 : xVw "CoverRoundsModel" "CoverRoundsModel" 77 y_m_isPlace b_m_isPlace 2 (some .boolean) 1 := ⟨mg (List.mem_of_getElem? (i := 409) rfl) rfl, mg (List.mem_of_getElem? (i := 411) rfl) rfl, mg (List.mem_of_getElem? (i := 24) rfl) rfl, mg (List.mem_of_getElem? (i := 40) rfl) rfl, mg (List.mem_of_getElem? (i := 412) rfl) rfl, rfl, by decide, by decide, by decide +kernel⟩
set_option maxRecDepth 20000 in
theorem s_law_32 : xVw "CoverRoundsLaw" "CoverRoundsModel" 32 y_m_target b_m_target 3 (some .boolean) 2 := ⟨mg (List.mem_of_getElem? (i := 413) rfl) rfl, mg (List.mem_of_getElem? (i := 414) rfl) rfl, mg (List.mem_of_getElem? (i := 415) rfl) rfl, mg (List.mem_of_getElem? (i := 40) rfl) rfl, mg (List.mem_of_getElem? (i := 416) rfl) rfl, rfl, by decide, by decide, by decide +kernel⟩
set_option maxRecDepth 20000 in
theorem s_law_36 : xVw "CoverRoundsLaw" "CoverRoundsModel" 36 y_m_rounds b_m_rounds 4 (some .int) 0 := ⟨mg (List.mem_of_getElem? (i := 417) rfl) rfl, mg (List.mem_of_getElem? (i := 418) rfl) rfl, mg (List.mem_of_getElem? (i := 419) rfl) rfl, mg (List.mem_of_getElem? (i := 40) rfl) rfl, mg (List.mem_of_getElem? (i := 420) rfl) rfl, rfl, by decide, by decide, by decide +kernel⟩
set_option maxRecDepth 20000 in
theorem s_m_90 : xVw "CoverRoundsModel" "CoverRoundsModel" 90 y_m_takeIn b_m_takeIn 4 none 0 := ⟨mg (List.mem_of_getElem? (i := 421) rfl) rfl, mg (List.mem_of_getElem? (i := 423) rfl) rfl, mg (List.mem_of_getElem? (i := 25) rfl) rfl, mg (List.mem_of_getElem? (i := 40) rfl) rfl, mg (List.mem_of_getElem? (i := 424) rfl) rfl, rfl, by decide, by decide, by decide +kernel⟩
set_option maxRecDepth 20000 in
theorem s_m_83 : xSw "CoverRoundsModel" "CoverRoundsModel" 83 y_m_tops b_m_tops 6 (some .boolean) 4 := ⟨mg (List.mem_of_getElem? (i := 425) rfl) rfl, mg (List.mem_of_getElem? (i := 426) rfl) rfl, mg (List.mem_of_getElem? (i := 40) rfl) rfl, mg (List.mem_of_getElem? (i := 427) rfl) rfl, rfl, by decide, by decide, by decide +kernel⟩
set_option maxRecDepth 20000 in
theorem s_m_99 : xVw "CoverRoundsModel" "CoverRoundsModel" 99 y_m_isFirstIn b_m_isFirstIn 3 (some .boolean) 0 := ⟨mg (List.mem_of_getElem? (i := 428) rfl) rfl, mg (List.mem_of_getElem? (i := 430) rfl) rfl, mg (List.mem_of_getElem? (i := 26) rfl) rfl, mg (List.mem_of_getElem? (i := 40) rfl) rfl, mg (List.mem_of_getElem? (i := 431) rfl) rfl, rfl, by decide, by decide, by decide +kernel⟩
set_option maxRecDepth 20000 in
theorem s_m_103 : xVw "CoverRoundsModel" "CoverRoundsModel" 103 y_m_isSame b_m_isSame 5 (some .boolean) 0 := ⟨mg (List.mem_of_getElem? (i := 432) rfl) rfl, mg (List.mem_of_getElem? (i := 434) rfl) rfl, mg (List.mem_of_getElem? (i := 27) rfl) rfl, mg (List.mem_of_getElem? (i := 40) rfl) rfl, mg (List.mem_of_getElem? (i := 435) rfl) rfl, rfl, by decide, by decide, by decide +kernel⟩
set_option maxRecDepth 20000 in
theorem s_m_106 : xVw "CoverRoundsModel" "CoverRoundsModel" 106 y_m_step b_m_step 5 none 0 := ⟨mg (List.mem_of_getElem? (i := 436) rfl) rfl, mg (List.mem_of_getElem? (i := 438) rfl) rfl, mg (List.mem_of_getElem? (i := 28) rfl) rfl, mg (List.mem_of_getElem? (i := 40) rfl) rfl, mg (List.mem_of_getElem? (i := 439) rfl) rfl, rfl, by decide, by decide, by decide +kernel⟩
set_option maxRecDepth 20000 in
theorem s_m_109 : xVw "CoverRoundsModel" "CoverRoundsModel" 109 y_m_tellRow b_m_tellRow 5 none 0 := ⟨mg (List.mem_of_getElem? (i := 440) rfl) rfl, mg (List.mem_of_getElem? (i := 442) rfl) rfl, mg (List.mem_of_getElem? (i := 29) rfl) rfl, mg (List.mem_of_getElem? (i := 40) rfl) rfl, mg (List.mem_of_getElem? (i := 443) rfl) rfl, rfl, by decide, by decide, by decide +kernel⟩
set_option maxRecDepth 20000 in
theorem s_m_112 : xVw "CoverRoundsModel" "CoverRoundsModel" 112 y_m_leads b_m_leads 5 (some .boolean) 3 := ⟨mg (List.mem_of_getElem? (i := 444) rfl) rfl, mg (List.mem_of_getElem? (i := 446) rfl) rfl, mg (List.mem_of_getElem? (i := 30) rfl) rfl, mg (List.mem_of_getElem? (i := 40) rfl) rfl, mg (List.mem_of_getElem? (i := 447) rfl) rfl, rfl, by decide, by decide, by decide +kernel⟩
set_option maxRecDepth 20000 in
theorem s_m_116 : xVw "CoverRoundsModel" "CoverRoundsModel" 116 y_m_canFire b_m_canFire 4 (some .boolean) 3 := ⟨mg (List.mem_of_getElem? (i := 448) rfl) rfl, mg (List.mem_of_getElem? (i := 450) rfl) rfl, mg (List.mem_of_getElem? (i := 31) rfl) rfl, mg (List.mem_of_getElem? (i := 40) rfl) rfl, mg (List.mem_of_getElem? (i := 451) rfl) rfl, rfl, by decide, by decide, by decide +kernel⟩
set_option maxRecDepth 20000 in
theorem s_m_119 : xVw "CoverRoundsModel" "CoverRoundsModel" 119 y_m_isInRound b_m_isInRound 5 (some .boolean) 2 := ⟨mg (List.mem_of_getElem? (i := 452) rfl) rfl, mg (List.mem_of_getElem? (i := 454) rfl) rfl, mg (List.mem_of_getElem? (i := 32) rfl) rfl, mg (List.mem_of_getElem? (i := 40) rfl) rfl, mg (List.mem_of_getElem? (i := 455) rfl) rfl, rfl, by decide, by decide, by decide +kernel⟩
set_option maxRecDepth 20000 in
theorem s_law_40 : xVw "CoverRoundsLaw" "CoverRoundsModel" 40 y_m_steps b_m_steps 1 (some .int) 0 := ⟨mg (List.mem_of_getElem? (i := 456) rfl) rfl, mg (List.mem_of_getElem? (i := 457) rfl) rfl, mg (List.mem_of_getElem? (i := 458) rfl) rfl, mg (List.mem_of_getElem? (i := 40) rfl) rfl, mg (List.mem_of_getElem? (i := 459) rfl) rfl, rfl, by decide, by decide, by decide +kernel⟩
set_option maxRecDepth 20000 in
theorem s_law_44 : xVw "CoverRoundsLaw" "CoverRoundsModel" 44 y_m_witness b_m_witness 2 (some .int) 1 := ⟨mg (List.mem_of_getElem? (i := 460) rfl) rfl, mg (List.mem_of_getElem? (i := 461) rfl) rfl, mg (List.mem_of_getElem? (i := 462) rfl) rfl, mg (List.mem_of_getElem? (i := 40) rfl) rfl, mg (List.mem_of_getElem? (i := 463) rfl) rfl, rfl, by decide, by decide, by decide +kernel⟩
set_option maxRecDepth 20000 in
theorem s_law_48 : xVw "CoverRoundsLaw" "CoverRoundsModel" 48 y_m_least b_m_least 2 (some .int) 1 := ⟨mg (List.mem_of_getElem? (i := 464) rfl) rfl, mg (List.mem_of_getElem? (i := 465) rfl) rfl, mg (List.mem_of_getElem? (i := 466) rfl) rfl, mg (List.mem_of_getElem? (i := 40) rfl) rfl, mg (List.mem_of_getElem? (i := 467) rfl) rfl, rfl, by decide, by decide, by decide +kernel⟩
set_option maxRecDepth 20000 in
theorem s_law_52 : xVw "CoverRoundsLaw" "CoverRoundsModel" 52 y_m_grow b_m_grow 5 (some .int) 0 := ⟨mg (List.mem_of_getElem? (i := 468) rfl) rfl, mg (List.mem_of_getElem? (i := 469) rfl) rfl, mg (List.mem_of_getElem? (i := 470) rfl) rfl, mg (List.mem_of_getElem? (i := 40) rfl) rfl, mg (List.mem_of_getElem? (i := 471) rfl) rfl, rfl, by decide, by decide, by decide +kernel⟩
set_option maxRecDepth 20000 in
theorem s_m_131 : xVw "CoverRoundsModel" "CoverRoundsModel" 131 y_m_isOld b_m_isOld 4 (some .boolean) 1 := ⟨mg (List.mem_of_getElem? (i := 472) rfl) rfl, mg (List.mem_of_getElem? (i := 474) rfl) rfl, mg (List.mem_of_getElem? (i := 33) rfl) rfl, mg (List.mem_of_getElem? (i := 40) rfl) rfl, mg (List.mem_of_getElem? (i := 475) rfl) rfl, rfl, by decide, by decide, by decide +kernel⟩
set_option maxRecDepth 20000 in
theorem s_m_134 : xVw "CoverRoundsModel" "CoverRoundsModel" 134 y_m_accelerate b_m_accelerate 6 none 1 := ⟨mg (List.mem_of_getElem? (i := 477) rfl) rfl, mg (List.mem_of_getElem? (i := 479) rfl) rfl, mg (List.mem_of_getElem? (i := 34) rfl) rfl, mg (List.mem_of_getElem? (i := 40) rfl) rfl, mg (List.mem_of_getElem? (i := 480) rfl) rfl, rfl, by decide, by decide, by decide +kernel⟩
set_option maxRecDepth 20000 in
theorem s_m_141 : xVw "CoverRoundsModel" "CoverRoundsModel" 141 y_m_tellTree b_m_tellTree 6 none 0 := ⟨mg (List.mem_of_getElem? (i := 481) rfl) rfl, mg (List.mem_of_getElem? (i := 483) rfl) rfl, mg (List.mem_of_getElem? (i := 35) rfl) rfl, mg (List.mem_of_getElem? (i := 40) rfl) rfl, mg (List.mem_of_getElem? (i := 484) rfl) rfl, rfl, by decide, by decide, by decide +kernel⟩
set_option maxRecDepth 20000 in
theorem s_m_150 : xVw "CoverRoundsModel" "CoverRoundsModel" 150 y_m_isBefore b_m_isBefore 5 (some .boolean) 2 := ⟨mg (List.mem_of_getElem? (i := 485) rfl) rfl, mg (List.mem_of_getElem? (i := 487) rfl) rfl, mg (List.mem_of_getElem? (i := 36) rfl) rfl, mg (List.mem_of_getElem? (i := 40) rfl) rfl, mg (List.mem_of_getElem? (i := 488) rfl) rfl, rfl, by decide, by decide, by decide +kernel⟩
set_option maxRecDepth 20000 in
theorem s_law_56 : xVw "CoverRoundsLaw" "CoverRoundsModel" 56 y_m_most b_m_most 4 (some .int) 1 := ⟨mg (List.mem_of_getElem? (i := 489) rfl) rfl, mg (List.mem_of_getElem? (i := 490) rfl) rfl, mg (List.mem_of_getElem? (i := 491) rfl) rfl, mg (List.mem_of_getElem? (i := 40) rfl) rfl, mg (List.mem_of_getElem? (i := 492) rfl) rfl, rfl, by decide, by decide, by decide +kernel⟩
set_option maxRecDepth 20000 in
theorem s_m_153 : xVw "CoverRoundsModel" "CoverRoundsModel" 153 y_m_isGrownPlace b_m_isGrownPlace 2 (some .boolean) 1 := ⟨mg (List.mem_of_getElem? (i := 493) rfl) rfl, mg (List.mem_of_getElem? (i := 495) rfl) rfl, mg (List.mem_of_getElem? (i := 37) rfl) rfl, mg (List.mem_of_getElem? (i := 40) rfl) rfl, mg (List.mem_of_getElem? (i := 496) rfl) rfl, rfl, by decide, by decide, by decide +kernel⟩
set_option maxRecDepth 20000 in
theorem s_m_156 : xSw "CoverRoundsModel" "CoverRoundsModel" 156 y_m_told b_m_told 1 (some .int) 1 := ⟨mg (List.mem_of_getElem? (i := 497) rfl) rfl, mg (List.mem_of_getElem? (i := 498) rfl) rfl, mg (List.mem_of_getElem? (i := 40) rfl) rfl, mg (List.mem_of_getElem? (i := 499) rfl) rfl, rfl, by decide, by decide, by decide +kernel⟩
set_option maxRecDepth 20000 in
theorem s_law_61 : xVw "CoverRoundsLaw" "CoverRoundsModel" 61 y_m_live b_m_live 2 (some .boolean) 1 := ⟨mg (List.mem_of_getElem? (i := 500) rfl) rfl, mg (List.mem_of_getElem? (i := 501) rfl) rfl, mg (List.mem_of_getElem? (i := 502) rfl) rfl, mg (List.mem_of_getElem? (i := 40) rfl) rfl, mg (List.mem_of_getElem? (i := 503) rfl) rfl, rfl, by decide, by decide, by decide +kernel⟩
set_option maxRecDepth 20000 in
theorem s_law_65 : xVw "CoverRoundsLaw" "CoverRoundsModel" 65 y_m_limits b_m_limits 1 (some .int) 0 := ⟨mg (List.mem_of_getElem? (i := 504) rfl) rfl, mg (List.mem_of_getElem? (i := 505) rfl) rfl, mg (List.mem_of_getElem? (i := 506) rfl) rfl, mg (List.mem_of_getElem? (i := 40) rfl) rfl, mg (List.mem_of_getElem? (i := 507) rfl) rfl, rfl, by decide, by decide, by decide +kernel⟩
set_option maxRecDepth 20000 in
theorem s_law_70 : xVw "CoverRoundsLaw" "CoverRoundsModel" 70 y_m_limit b_m_limit 3 (some .int) 2 := ⟨mg (List.mem_of_getElem? (i := 508) rfl) rfl, mg (List.mem_of_getElem? (i := 509) rfl) rfl, mg (List.mem_of_getElem? (i := 510) rfl) rfl, mg (List.mem_of_getElem? (i := 40) rfl) rfl, mg (List.mem_of_getElem? (i := 511) rfl) rfl, rfl, by decide, by decide, by decide +kernel⟩
set_option maxRecDepth 20000 in
theorem s_law_75 : xVw "CoverRoundsLaw" "CoverRoundsModel" 75 y_m_covers b_m_covers 3 (some .boolean) 0 := ⟨mg (List.mem_of_getElem? (i := 512) rfl) rfl, mg (List.mem_of_getElem? (i := 513) rfl) rfl, mg (List.mem_of_getElem? (i := 514) rfl) rfl, mg (List.mem_of_getElem? (i := 40) rfl) rfl, mg (List.mem_of_getElem? (i := 515) rfl) rfl, rfl, by decide, by decide, by decide +kernel⟩
set_option maxRecDepth 20000 in
theorem s_law_79 : xVw "CoverRoundsLaw" "CoverRoundsModel" 79 y_m_fire b_m_fire 3 (some .boolean) 1 := ⟨mg (List.mem_of_getElem? (i := 516) rfl) rfl, mg (List.mem_of_getElem? (i := 517) rfl) rfl, mg (List.mem_of_getElem? (i := 518) rfl) rfl, mg (List.mem_of_getElem? (i := 40) rfl) rfl, mg (List.mem_of_getElem? (i := 519) rfl) rfl, rfl, by decide, by decide, by decide +kernel⟩
set_option maxRecDepth 20000 in
theorem s_law_83 : xVw "CoverRoundsLaw" "CoverRoundsModel" 83 y_m_tokens b_m_tokens 2 (some .int) 1 := ⟨mg (List.mem_of_getElem? (i := 520) rfl) rfl, mg (List.mem_of_getElem? (i := 521) rfl) rfl, mg (List.mem_of_getElem? (i := 522) rfl) rfl, mg (List.mem_of_getElem? (i := 40) rfl) rfl, mg (List.mem_of_getElem? (i := 523) rfl) rfl, rfl, by decide, by decide, by decide +kernel⟩
set_option maxRecDepth 20000 in
theorem tb_cx26 : Cond.constant "CoverRounds" 26 61000 ∈ lw_g := mg (List.mem_of_getElem? (i := 51) rfl) rfl
set_option maxRecDepth 20000 in
theorem tb_cx148 : Cond.constant "CoverRounds" 148 1000000 ∈ lw_g := mg (List.mem_of_getElem? (i := 249) rfl) rfl
set_option maxRecDepth 20000 in
theorem tb_cm32 : Cond.constant "CoverRoundsModel" 32 61000 ∈ lw_g := mg (List.mem_of_getElem? (i := 303) rfl) rfl
set_option maxRecDepth 20000 in
theorem tb_cm123 : Cond.constant "CoverRoundsModel" 123 1000000 ∈ lw_g := mg (List.mem_of_getElem? (i := 476) rfl) rfl
set_option maxRecDepth 20000 in
theorem tb_ac : Cond.methodLink "CoverRounds" 71 arraycopyName ∈ lw_g ∧ Cond.native arraycopyName ∈ lw_g ∧ Cond.static arraycopyName ∈ lw_g ∧ Cond.initialized "java/lang/System" ∈ lw_g := ⟨mg (List.mem_of_getElem? (i := 139) rfl) rfl, mg (List.mem_of_getElem? (i := 141) rfl) rfl, mg (List.mem_of_getElem? (i := 140) rfl) rfl, mg (List.mem_of_getElem? (i := 41) rfl) rfl⟩
set_option maxRecDepth 20000 in
theorem tb_mx : Cond.methodLink "CoverRounds" 112 Lib.Math.max.name ∈ lw_g ∧ Cond.static Lib.Math.max.name ∈ lw_g ∧ Cond.initialized "java/lang/Math" ∈ lw_g ∧ Cond.code Lib.Math.max.name Lib.Math.max.code 2 (some .int) ∈ lw_g := ⟨mg (List.mem_of_getElem? (i := 197) rfl) rfl, mg (List.mem_of_getElem? (i := 198) rfl) rfl, mg (List.mem_of_getElem? (i := 42) rfl) rfl, mg (List.mem_of_getElem? (i := 199) rfl) rfl⟩
end
section
/-! A WALK OVER PICTURES: Wx says that from any heap that holds the picture of the state σ, at pc, with the locals L and the stack st, the machine comes to Q. -/
abbrev XE : Type := Program × Launch × Env × Room × State × MethodId × Array Value × List Frame × Method × Code × Nat × Nat × va_G × (Nat → Prop) × (XS → va_W) × (State → Prop)
abbrev e_p (E : XE) : Program := E.1
abbrev e_l (E : XE) : Launch := E.2.1
abbrev e_e (E : XE) : Env := E.2.2.1
abbrev e_R (E : XE) : Room := E.2.2.2.1
abbrev e_s (E : XE) : State := E.2.2.2.2.1
abbrev e_m (E : XE) : MethodId := E.2.2.2.2.2.1
abbrev e_a (E : XE) : Array Value := E.2.2.2.2.2.2.1
abbrev e_b (E : XE) : List Frame := E.2.2.2.2.2.2.2.1
abbrev e_h (E : XE) : Method := E.2.2.2.2.2.2.2.2.1
abbrev e_c (E : XE) : Code := E.2.2.2.2.2.2.2.2.2.1
abbrev e_n (E : XE) : Nat := E.2.2.2.2.2.2.2.2.2.2.1
abbrev e_k (E : XE) : Nat := E.2.2.2.2.2.2.2.2.2.2.2.1
abbrev e_D (E : XE) : va_G := E.2.2.2.2.2.2.2.2.2.2.2.2.1
abbrev e_A (E : XE) : Nat → Prop := E.2.2.2.2.2.2.2.2.2.2.2.2.2.1
abbrev e_w (E : XE) : XS → va_W := E.2.2.2.2.2.2.2.2.2.2.2.2.2.2.1
abbrev e_Q (E : XE) : State → Prop := E.2.2.2.2.2.2.2.2.2.2.2.2.2.2.2
/-- the locals, from place 0 on -/
def xl (ls : Array Slot) (n : Nat) (L : List Value) : Prop := ls.size = n ∧ lv_wf ls ∧ (∀ v ∈ L, v.category = 1) ∧ ∀ (i : Nat) (v : Value), L[i]? = some v → ls[i]? = some (.val v)
def xst : List Value → Nat → Value → List Value
  | [], _, v => [v]
  | _ :: L, 0, v => v :: L
  | a :: L, i + 1, v => a :: xst L i v
theorem xst_at : ∀ (L : List Value) (i : Nat) (v : Value), i ≤ L.length → ∀ j : Nat, (xst L i v)[j]? = if j = i then some v else L[j]?
  | [], i, v, h, j => by
    have : i = 0 := by simpa using h
    subst this
    cases j with
    | zero => simp [xst]
    | succ j => simp [xst]
  | a :: L, 0, v, h, j => by
    cases j with
    | zero => simp [xst]
    | succ j => simp [xst]
  | a :: L, i + 1, v, h, j => by
    cases j with
    | zero => simp [xst]
    | succ j =>
      have := xst_at L i v (by simpa using h) j
      simp [xst, this]
theorem xst_mem : ∀ (L : List Value) (i : Nat) (v w : Value), w ∈ xst L i v → w = v ∨ w ∈ L
  | [], i, v, w, h => by simp [xst] at h; exact Or.inl h
  | a :: L, 0, v, w, h => by
    simp [xst] at h
    rcases h with h | h
    · exact Or.inl h
    · exact Or.inr (List.mem_cons_of_mem _ h)
  | a :: L, i + 1, v, w, h => by
    simp [xst] at h
    rcases h with h | h
    · exact Or.inr (by simp [h])
    · rcases xst_mem L i v w h with h | h
      · exact Or.inl h
      · exact Or.inr (List.mem_cons_of_mem _ h)
def xz (L : List Value) : List (Nat × Value) := L.zipIdx.map (fun q => (q.2, q.1))
theorem xz_mem {L : List Value} {q : Nat × Value} (h : q ∈ xz L) : L[q.1]? = some q.2 := by
  obtain ⟨z, hz, rfl⟩ := List.mem_map.mp h
  exact List.mem_zipIdx_iff_getElem?.mp hz
theorem xz_of {L : List Value} {i : Nat} {v : Value} (h : L[i]? = some v) : (i, v) ∈ xz L := List.mem_map.mpr ⟨(v, i), List.mem_zipIdx_iff_getElem?.mpr h, rfl⟩
theorem xl.has {ls : Array Slot} {n : Nat} {L : List Value} (h : xl ls n L) : lv_has ls n (xz L) := ⟨h.1, h.2.1, fun _ hq => h.2.2.2 _ _ (xz_mem hq)⟩
theorem xl.store {ls : Array Slot} {n : Nat} {L : List Value} (h : xl ls n L) {i : Nat} {v : Value} (hv : v.category = 1) (hi : i ≤ L.length) {ls' : Array Slot} (h' : lv_has ls' n ((i, v) :: (xz L).filter (fun q => !(q.1 == i) && !(q.1 + 1 == i && q.2.category == 2)))) : xl ls' n (xst L i v) := by
  refine ⟨h'.1, h'.2.1, fun w hw => ?_, fun j w hj => ?_⟩
  · rcases xst_mem L i v w hw with rfl | hw
    · exact hv
    · exact h.2.2.1 w hw
  · rw [xst_at L i v hi j] at hj
    by_cases e : j = i
    · rw [if_pos e] at hj
      cases hj
      subst e
      exact h'.2.2 _ List.mem_cons_self
    · rw [if_neg e] at hj
      have hc : w.category = 1 := h.2.2.1 w (List.mem_of_getElem? hj)
      refine h'.2.2 (j, w) (List.mem_cons_of_mem _ (List.mem_filter.mpr ⟨xz_of hj, ?_⟩))
      simp [e, hc]
theorem xl.take {ls : Array Slot} {n : Nat} {L : List Value} (h : xl ls n L) (k : Nat) : xl ls n (L.take k) := by
  refine ⟨h.1, h.2.1, fun v hv => h.2.2.1 v (List.mem_of_mem_take hv), fun i v hi => h.2.2.2 i v ?_⟩
  rw [List.getElem?_take] at hi
  split at hi
  · exact hi
  · cases hi
theorem xl_entry_at : ∀ (vs : List Value) (i : Nat), (∀ v ∈ vs, v.category = 1) → ∀ (j : Nat) (v : Value), vs[j]? = some v → (i + j, v) ∈ lv_args i vs
  | [], i, _, j, v, h => by simp at h
  | a :: vs, i, hc, j, v, h => by
    have ha : ¬ a.category = 2 := by rw [hc a List.mem_cons_self]; decide
    cases j with
    | zero =>
      simp at h
      subst h
      simp [lv_args]
    | succ j =>
      have := xl_entry_at vs (i + 1) (fun v hv => hc v (List.mem_cons_of_mem _ hv)) j v (by simpa using h)
      rw [show i + (j + 1) = i + 1 + j by omega]
      simp [lv_args, ha, this]
theorem lg_sl_len : ∀ (vs : List Value), (∀ v ∈ vs, v.category = 1) → (lg_sl vs).length = vs.length
  | [], _ => rfl
  | a :: vs, hc => by
    have ha : ¬ a.category = 2 := by rw [hc a List.mem_cons_self]; decide
    have := lg_sl_len vs (fun v hv => hc v (List.mem_cons_of_mem _ hv))
    simp [lg_sl, ha] at this ⊢
    exact this
def Wx (E : XE) (pc : Nat) (L st : List Value) (σ : XS) : Prop :=
  ∀ (H : Heap) (locs : List Loc) (ls : Array Slot), va_P (e_D E) classes (e_w E σ) H → va_D (e_A E) (e_w E σ) → va_S (e_A E) (e_s E).heap H locs → xl ls (e_c E).maxLocals L → W (e_p E) (e_l E) (e_e E) (e_R E) (e_s E) (e_m E) (e_a E) (e_b E) (e_h E) (e_c E) H locs (e_n E) (e_k E) (e_Q E) (F0 (e_m E) pc ls st)
/-- what holds of the method that is walked: cc its code, nL its locals, own its class, fr and lo the room that is left -/
def XOk (E : XE) (cc : ByteArray) (nL : Nat) (own : String) (fr lo : Nat) : Prop :=
  (e_p E).tables.exec = Jvm.exec ∧ (e_c E).code = cc ∧ (e_c E).maxLocals = nL ∧ (e_s E).vm.findClass own = some (e_m E).cls ∧ (∀ w ∈ lw_g, w.before (e_a E) (e_s E) = true) ∧ (∀ q, (e_s E).heap.size ≤ q → e_A E q) ∧ fr ≤ (e_R E).frames ∧ lo ≤ (e_R E).locals ∧ e_n E ≤ (e_R E).cells ∧ e_k E ≤ (e_R E).slots
def XCl (E : XE) (g : Bool) (q : Nat → Nat) (cA : Nat → ClassId) : Prop := e_w E = xw g q cA ∧ va_K (e_D E) classes (xtys g cA) (e_s E)
def xd (cc : ByteArray) (pc : Nat) (i : Instr) (len n : Nat) : Prop := decode cc pc = .ok (i, len) ∧ n = pc + len
def xj (cc : ByteArray) (pc : Nat) (i : Instr) (len n : Nat) (off : Int) (t : Nat) : Prop := decode cc pc = .ok (i, len) ∧ n = pc + len ∧ (pc : Int) + off = (t : Int)
def bI (b : Bool) : Int32 := match b with
  | true => nI 1
  | false => nI 0
theorem bI_and (a b : Bool) : bI a &&& bI b = bI (a && b) := by cases a <;> cases b <;> rfl
theorem bI_or (a b : Bool) : bI a ||| bI b = bI (a || b) := by cases a <;> cases b <;> rfl
theorem bI_0 {b : Bool} : bI b = 0 ↔ b = false := by cases b <;> decide
theorem bI_inj {a b : Bool} : bI a = bI b ↔ a = b := by cases a <;> cases b <;> decide
theorem bI_nar (b : Bool) : narrow .boolean (.int (bI b)) = .int (bI b) := by cases b <;> rfl
theorem bI_fit (b : Bool) : fits .boolean (.int (bI b)) = true := by cases b <;> rfl
section XR
variable {E : XE} {cc : ByteArray} {nL fr lo pc n : Nat} {own : String} {L st : List Value} {σ : XS}
theorem x_aload_n (C : XOk E cc nL own fr lo) {k : Fin 4} {a : Nat} (h : L[(k : Nat)]? = some (.ref a)) (d : xd cc pc (.aload_n k) 1 n) (kk : Wx E n L (.ref a :: st) σ) : Wx E pc L st σ := by
  obtain ⟨d, rfl⟩ := d
  intro H locs ls hP hD hS hl
  exact lv_aload_n C.1 C.2.1 d rfl (hl.2.2.2 _ _ h) (kk H locs ls hP hD hS hl)
theorem x_aload (C : XOk E cc nL own fr lo) {k a : Nat} (h : L[k]? = some (.ref a)) (d : xd cc pc (.aload k) 2 n) (kk : Wx E n L (.ref a :: st) σ) : Wx E pc L st σ := by
  obtain ⟨d, rfl⟩ := d
  intro H locs ls hP hD hS hl
  exact lv_aload C.1 C.2.1 d (hl.2.2.2 _ _ h) (kk H locs ls hP hD hS hl)
theorem x_iload_n (C : XOk E cc nL own fr lo) {k : Fin 4} {x : Int32} (h : L[(k : Nat)]? = some (.int x)) (d : xd cc pc (.iload_n k) 1 n) (kk : Wx E n L (.int x :: st) σ) : Wx E pc L st σ := by
  obtain ⟨d, rfl⟩ := d
  intro H locs ls hP hD hS hl
  exact lv_iload_n C.1 C.2.1 d rfl (hl.2.2.2 _ _ h) (kk H locs ls hP hD hS hl)
theorem x_iload (C : XOk E cc nL own fr lo) {k : Nat} {x : Int32} (h : L[k]? = some (.int x)) (d : xd cc pc (.iload k) 2 n) (kk : Wx E n L (.int x :: st) σ) : Wx E pc L st σ := by
  obtain ⟨d, rfl⟩ := d
  intro H locs ls hP hD hS hl
  exact lv_iload C.1 C.2.1 d (hl.2.2.2 _ _ h) (kk H locs ls hP hD hS hl)
theorem x_istore_n (C : XOk E cc nL own fr lo) {k : Fin 4} (i : Nat) (hi : (k : Nat) = i) {x : Int32} (h : Nat.ble i L.length = true) (hn : Nat.blt i nL = true) (d : xd cc pc (.istore_n k) 1 n) (kk : Wx E n (xst L i (.int x)) st σ) : Wx E pc L (.int x :: st) σ := by
  subst hi
  obtain ⟨d, rfl⟩ := d
  intro H locs ls hP hD hS hl
  exact lv_istore_n C.1 C.2.1 d rfl hl.has (by rw [C.2.2.1]; exact Nat.blt_eq.mp hn) rfl (fun ls' hl' => kk H locs ls' hP hD hS (hl.store rfl (Nat.le_of_ble_eq_true h) hl'))
theorem x_istore (C : XOk E cc nL own fr lo) {k : Nat} {x : Int32} (h : Nat.ble k L.length = true) (hn : Nat.blt k nL = true) (d : xd cc pc (.istore k) 2 n) (kk : Wx E n (xst L k (.int x)) st σ) : Wx E pc L (.int x :: st) σ := by
  obtain ⟨d, rfl⟩ := d
  intro H locs ls hP hD hS hl
  exact lv_istore C.1 C.2.1 d hl.has (by rw [C.2.2.1]; exact Nat.blt_eq.mp hn) rfl (fun ls' hl' => kk H locs ls' hP hD hS (hl.store rfl (Nat.le_of_ble_eq_true h) hl'))
theorem x_astore_n (C : XOk E cc nL own fr lo) {k : Fin 4} (i : Nat) (hi : (k : Nat) = i) {x : Nat} (h : Nat.ble i L.length = true) (hn : Nat.blt i nL = true) (d : xd cc pc (.astore_n k) 1 n) (kk : Wx E n (xst L i (.ref x)) st σ) : Wx E pc L (.ref x :: st) σ := by
  subst hi
  obtain ⟨d, rfl⟩ := d
  intro H locs ls hP hD hS hl
  exact lv_astore_n C.1 C.2.1 d rfl hl.has (by rw [C.2.2.1]; exact Nat.blt_eq.mp hn) rfl (fun ls' hl' => kk H locs ls' hP hD hS (hl.store rfl (Nat.le_of_ble_eq_true h) hl'))
theorem x_iinc (C : XOk E cc nL own fr lo) {k : Nat} {z : Int} {x : Int32} (h : L[k]? = some (.int x)) (hn : Nat.blt k nL = true) (d : xd cc pc (.iinc k z) 3 n) (kk : Wx E n (xst L k (.int (x + Int32.ofInt z))) st σ) : Wx E pc L st σ := by
  obtain ⟨d, rfl⟩ := d
  intro H locs ls hP hD hS hl
  obtain ⟨i, hi⟩ := List.getElem?_of_mem (xz_of h)
  have hk : k ≤ L.length := Nat.le_of_lt (List.getElem?_eq_some_iff.mp h).1
  exact lv_iinc C.1 C.2.1 d hl.has hi rfl (by rw [C.2.2.1]; exact Nat.blt_eq.mp hn) rfl (fun ls' hl' => kk H locs ls' hP hD hS (hl.store rfl hk hl'))
theorem x_iincN (C : XOk E cc nL own fr lo) {k a b : Nat} (h : L[k]? = some (.int (nI a))) (hn : Nat.blt k nL = true) (d : xd cc pc (.iinc k (b : Int)) 3 n) (kk : Wx E n (xst L k (.int (nI (a + b)))) st σ) : Wx E pc L st σ := by
  refine x_iinc C h hn d ?_
  rw [show (nI a + Int32.ofInt (b : Int)) = nI (a + b) by rw [← nI_add]; rfl]
  exact kk
theorem x_take (k : Nat) (kk : Wx E pc (L.take k) st σ) : Wx E pc L st σ := by
  intro H locs ls hP hD hS hl
  exact kk H locs ls hP hD hS (hl.take k)
theorem x_iconst (C : XOk E cc nL own fr lo) {z : Int} (v : Int32) (hv : Int32.ofInt z = v) (d : xd cc pc (.iconst z) 1 n) (kk : Wx E n L (.int v :: st) σ) : Wx E pc L st σ := by
  obtain ⟨d, rfl⟩ := d
  intro H locs ls hP hD hS hl
  exact lv_iconst C.1 C.2.1 d hv (kk H locs ls hP hD hS hl)
theorem x_bipush (C : XOk E cc nL own fr lo) {z : Int} (v : Int32) (hv : (Int8.ofInt z).toInt32 = v) (d : xd cc pc (.bipush z) 2 n) (kk : Wx E n L (.int v :: st) σ) : Wx E pc L st σ := by
  obtain ⟨d, rfl⟩ := d
  intro H locs ls hP hD hS hl
  exact lv_bipush C.1 C.2.1 d hv (kk H locs ls hP hD hS hl)
theorem x_sipush (C : XOk E cc nL own fr lo) {z : Int} (v : Int32) (hv : (Int16.ofInt z).toInt32 = v) (d : xd cc pc (.sipush z) 3 n) (kk : Wx E n L (.int v :: st) σ) : Wx E pc L st σ := by
  obtain ⟨d, rfl⟩ := d
  intro H locs ls hP hD hS hl
  exact lv_sipush C.1 C.2.1 d hv (kk H locs ls hP hD hS hl)
theorem x_ldc (C : XOk E cc nL own fr lo) {i : Nat} {v : Int32} (v' : Int32) (hc : Cond.constant own i v ∈ lw_g) (hv : v = v') (d : xd cc pc (.ldc i) 2 n) (kk : Wx E n L (.int v' :: st) σ) : Wx E pc L st σ := by
  obtain ⟨d, rfl⟩ := d
  subst hv
  intro H locs ls hP hD hS hl
  exact lv_ldc C.1 C.2.1 C.2.2.2.1 (C.2.2.2.2.1 _ hc) d (kk H locs ls hP hD hS hl)
theorem x_iadd (C : XOk E cc nL own fr lo) {x y : Int32} (d : xd cc pc .iadd 1 n) (kk : Wx E n L (.int (x + y) :: st) σ) : Wx E pc L (.int y :: .int x :: st) σ := by
  obtain ⟨d, rfl⟩ := d
  intro H locs ls hP hD hS hl
  exact lv_iadd C.1 C.2.1 d (kk H locs ls hP hD hS hl)
theorem x_isub (C : XOk E cc nL own fr lo) {x y : Int32} (d : xd cc pc .isub 1 n) (kk : Wx E n L (.int (x - y) :: st) σ) : Wx E pc L (.int y :: .int x :: st) σ := by
  obtain ⟨d, rfl⟩ := d
  intro H locs ls hP hD hS hl
  exact lv_isub C.1 C.2.1 d (kk H locs ls hP hD hS hl)
theorem x_imul (C : XOk E cc nL own fr lo) {x y : Int32} (d : xd cc pc .imul 1 n) (kk : Wx E n L (.int (x * y) :: st) σ) : Wx E pc L (.int y :: .int x :: st) σ := by
  obtain ⟨d, rfl⟩ := d
  intro H locs ls hP hD hS hl
  exact lv_imul C.1 C.2.1 d (kk H locs ls hP hD hS hl)
theorem x_iand (C : XOk E cc nL own fr lo) {x y : Int32} (d : xd cc pc .iand 1 n) (kk : Wx E n L (.int (x &&& y) :: st) σ) : Wx E pc L (.int y :: .int x :: st) σ := by
  obtain ⟨d, rfl⟩ := d
  intro H locs ls hP hD hS hl
  exact lv_iand C.1 C.2.1 d (kk H locs ls hP hD hS hl)
theorem x_ior (C : XOk E cc nL own fr lo) {x y : Int32} (d : xd cc pc .ior 1 n) (kk : Wx E n L (.int (x ||| y) :: st) σ) : Wx E pc L (.int y :: .int x :: st) σ := by
  obtain ⟨d, rfl⟩ := d
  intro H locs ls hP hD hS hl
  exact lv_ior C.1 C.2.1 d (kk H locs ls hP hD hS hl)
theorem x_ishl (C : XOk E cc nL own fr lo) {x y : Int32} (d : xd cc pc .ishl 1 n) (kk : Wx E n L (.int (x <<< (y &&& 31)) :: st) σ) : Wx E pc L (.int y :: .int x :: st) σ := by
  obtain ⟨d, rfl⟩ := d
  intro H locs ls hP hD hS hl
  exact lv_ishl C.1 C.2.1 d (kk H locs ls hP hD hS hl)
theorem x_ishr (C : XOk E cc nL own fr lo) {x y : Int32} (d : xd cc pc .ishr 1 n) (kk : Wx E n L (.int (x >>> (y &&& 31)) :: st) σ) : Wx E pc L (.int y :: .int x :: st) σ := by
  obtain ⟨d, rfl⟩ := d
  intro H locs ls hP hD hS hl
  exact lv_ishr C.1 C.2.1 d (kk H locs ls hP hD hS hl)
theorem x_iaddN (C : XOk E cc nL own fr lo) {a b : Nat} (d : xd cc pc .iadd 1 n) (kk : Wx E n L (.int (nI (a + b)) :: st) σ) : Wx E pc L (.int (nI b) :: .int (nI a) :: st) σ := by
  refine x_iadd C d ?_
  rw [nI_add]
  exact kk
theorem x_imulN (C : XOk E cc nL own fr lo) {a b : Nat} (d : xd cc pc .imul 1 n) (kk : Wx E n L (.int (nI (a * b)) :: st) σ) : Wx E pc L (.int (nI b) :: .int (nI a) :: st) σ := by
  refine x_imul C d ?_
  rw [pk_mul]
  exact kk
theorem x_isubN (C : XOk E cc nL own fr lo) {a b : Nat} (h : b ≤ a) (d : xd cc pc .isub 1 n) (kk : Wx E n L (.int (nI (a - b)) :: st) σ) : Wx E pc L (.int (nI b) :: .int (nI a) :: st) σ := by
  refine x_isub C d ?_
  rw [pk_sub h]
  exact kk
theorem x_iandB (C : XOk E cc nL own fr lo) {a b : Bool} (d : xd cc pc .iand 1 n) (kk : Wx E n L (.int (bI (a && b)) :: st) σ) : Wx E pc L (.int (bI b) :: .int (bI a) :: st) σ := by
  refine x_iand C d ?_
  rw [bI_and]
  exact kk
theorem x_iorB (C : XOk E cc nL own fr lo) {a b : Bool} (d : xd cc pc .ior 1 n) (kk : Wx E n L (.int (bI (a || b)) :: st) σ) : Wx E pc L (.int (bI b) :: .int (bI a) :: st) σ := by
  refine x_ior C d ?_
  rw [bI_or]
  exact kk
theorem x_i2b (C : XOk E cc nL own fr lo) {x : Int32} (v : Int32) (hv : x.toInt8.toInt32 = v) (d : xd cc pc .i2b 1 n) (kk : Wx E n L (.int v :: st) σ) : Wx E pc L (.int x :: st) σ := by
  obtain ⟨d, rfl⟩ := d
  intro H locs ls hP hD hS hl
  exact lv_i2b C.1 C.2.1 d hv (kk H locs ls hP hD hS hl)
theorem x_i2s (C : XOk E cc nL own fr lo) {x : Int32} (v : Int32) (hv : x.toInt16.toInt32 = v) (d : xd cc pc .i2s 1 n) (kk : Wx E n L (.int v :: st) σ) : Wx E pc L (.int x :: st) σ := by
  obtain ⟨d, rfl⟩ := d
  intro H locs ls hP hD hS hl
  exact lv_i2s C.1 C.2.1 d hv (kk H locs ls hP hD hS hl)
theorem x_dup (C : XOk E cc nL own fr lo) {v : Value} (h : v.category = 1) (d : xd cc pc .dup 1 n) (kk : Wx E n L (v :: v :: st) σ) : Wx E pc L (v :: st) σ := by
  obtain ⟨d, rfl⟩ := d
  intro H locs ls hP hD hS hl
  exact lv_dup C.1 C.2.1 d h (kk H locs ls hP hD hS hl)
theorem x_dup_x1 (C : XOk E cc nL own fr lo) {v w : Value} (h : v.category = 1) (h2 : w.category = 1) (d : xd cc pc .dup_x1 1 n) (kk : Wx E n L (v :: w :: v :: st) σ) : Wx E pc L (v :: w :: st) σ := by
  obtain ⟨d, rfl⟩ := d
  intro H locs ls hP hD hS hl
  exact lv_dup_x1 C.1 C.2.1 d h h2 (kk H locs ls hP hD hS hl)
theorem x_dup2 (C : XOk E cc nL own fr lo) {v w : Value} (h : v.category = 1) (h2 : w.category = 1) (d : xd cc pc .dup2 1 n) (kk : Wx E n L (v :: w :: v :: w :: st) σ) : Wx E pc L (v :: w :: st) σ := by
  obtain ⟨d, rfl⟩ := d
  intro H locs ls hP hD hS hl
  exact lv_dup2_11 C.1 C.2.1 d h h2 (kk H locs ls hP hD hS hl)
theorem x_goto (C : XOk E cc nL own fr lo) {off : Int} {t : Nat} (d : xj cc pc (.goto off) 3 n off t) (kk : Wx E t L st σ) : Wx E pc L st σ := by
  obtain ⟨d, rfl, h⟩ := d
  intro H locs ls hP hD hS hl
  exact lv_goto C.1 C.2.1 d h (kk H locs ls hP hD hS hl)
theorem x_icmp_eq (C : XOk E cc nL own fr lo) {x y : Int32} {off : Int} {t : Nat} (d : xj cc pc (.if_icmp .eq off) 3 n off t) (kt : x = y → Wx E t L st σ) (kf : ¬ x = y → Wx E n L st σ) : Wx E pc L (.int y :: .int x :: st) σ := by
  obtain ⟨d, rfl, h⟩ := d
  intro H locs ls hP hD hS hl
  exact lv_icmp_eq C.1 C.2.1 d h (fun z => kt z H locs ls hP hD hS hl) (fun z => kf z H locs ls hP hD hS hl)
theorem x_icmpN_eq (C : XOk E cc nL own fr lo) {a b : Nat} (ha : a < 2 ^ 31) (hb : b < 2 ^ 31) {off : Int} {t : Nat} (d : xj cc pc (.if_icmp .eq off) 3 n off t) (kt : a = b → Wx E t L st σ) (kf : a ≠ b → Wx E n L st σ) : Wx E pc L (.int (nI b) :: .int (nI a) :: st) σ :=
  x_icmp_eq C d (fun z => kt ((nI_eq ha hb).mp z)) (fun z => kf (fun e => z ((nI_eq ha hb).mpr e)))
theorem x_cmpB_eq (C : XOk E cc nL own fr lo) {a b : Nat} (ha : a < 2 ^ 31) (hb : b < 2 ^ 31) {o1 o2 : Int} {n1 n2 n3 t1 t2 : Nat} (d : xj cc pc (.if_icmp .eq o1) 3 n1 o1 t1) (d1 : xd cc n1 (.iconst 1) 1 n2) (d2 : xj cc n2 (.goto o2) 3 n3 o2 t2) (d3 : xd cc t1 (.iconst 0) 1 t2) (kk : Wx E t2 L (.int (bI (decide (a ≠ b))) :: st) σ) : Wx E pc L (.int (nI b) :: .int (nI a) :: st) σ := by
  refine x_icmpN_eq C ha hb d (fun z => ?_) (fun z => ?_)
  · refine x_iconst C (nI 0) rfl d3 ?_
    rw [show (decide (a ≠ b)) = false from decide_eq_false (by omega)] at kk
    exact kk
  · refine x_iconst C (nI 1) rfl d1 (x_goto C d2 ?_)
    rw [show (decide (a ≠ b)) = true from decide_eq_true (by omega)] at kk
    exact kk
theorem x_icmp_ne (C : XOk E cc nL own fr lo) {x y : Int32} {off : Int} {t : Nat} (d : xj cc pc (.if_icmp .ne off) 3 n off t) (kt : ¬ x = y → Wx E t L st σ) (kf : x = y → Wx E n L st σ) : Wx E pc L (.int y :: .int x :: st) σ := by
  obtain ⟨d, rfl, h⟩ := d
  intro H locs ls hP hD hS hl
  exact lv_icmp_ne C.1 C.2.1 d h (fun z => kt z H locs ls hP hD hS hl) (fun z => kf z H locs ls hP hD hS hl)
theorem x_icmpN_ne (C : XOk E cc nL own fr lo) {a b : Nat} (ha : a < 2 ^ 31) (hb : b < 2 ^ 31) {off : Int} {t : Nat} (d : xj cc pc (.if_icmp .ne off) 3 n off t) (kt : a ≠ b → Wx E t L st σ) (kf : a = b → Wx E n L st σ) : Wx E pc L (.int (nI b) :: .int (nI a) :: st) σ :=
  x_icmp_ne C d (fun z => kt (fun e => z ((nI_eq ha hb).mpr e))) (fun z => kf ((nI_eq ha hb).mp z))
theorem x_cmpB_ne (C : XOk E cc nL own fr lo) {a b : Nat} (ha : a < 2 ^ 31) (hb : b < 2 ^ 31) {o1 o2 : Int} {n1 n2 n3 t1 t2 : Nat} (d : xj cc pc (.if_icmp .ne o1) 3 n1 o1 t1) (d1 : xd cc n1 (.iconst 1) 1 n2) (d2 : xj cc n2 (.goto o2) 3 n3 o2 t2) (d3 : xd cc t1 (.iconst 0) 1 t2) (kk : Wx E t2 L (.int (bI (decide (a = b))) :: st) σ) : Wx E pc L (.int (nI b) :: .int (nI a) :: st) σ := by
  refine x_icmpN_ne C ha hb d (fun z => ?_) (fun z => ?_)
  · refine x_iconst C (nI 0) rfl d3 ?_
    rw [show (decide (a = b)) = false from decide_eq_false (by omega)] at kk
    exact kk
  · refine x_iconst C (nI 1) rfl d1 (x_goto C d2 ?_)
    rw [show (decide (a = b)) = true from decide_eq_true (by omega)] at kk
    exact kk
theorem x_icmp_lt (C : XOk E cc nL own fr lo) {x y : Int32} {off : Int} {t : Nat} (d : xj cc pc (.if_icmp .lt off) 3 n off t) (kt : x < y → Wx E t L st σ) (kf : ¬ x < y → Wx E n L st σ) : Wx E pc L (.int y :: .int x :: st) σ := by
  obtain ⟨d, rfl, h⟩ := d
  intro H locs ls hP hD hS hl
  exact lv_icmp_lt C.1 C.2.1 d h (fun z => kt z H locs ls hP hD hS hl) (fun z => kf z H locs ls hP hD hS hl)
theorem x_icmpN_lt (C : XOk E cc nL own fr lo) {a b : Nat} (ha : a < 2 ^ 31) (hb : b < 2 ^ 31) {off : Int} {t : Nat} (d : xj cc pc (.if_icmp .lt off) 3 n off t) (kt : a < b → Wx E t L st σ) (kf : b ≤ a → Wx E n L st σ) : Wx E pc L (.int (nI b) :: .int (nI a) :: st) σ :=
  x_icmp_lt C d (fun z => kt ((nI_ltI ha hb).mp z)) (fun z => kf (Nat.le_of_not_lt (fun e => z ((nI_ltI ha hb).mpr e))))
theorem x_cmpB_lt (C : XOk E cc nL own fr lo) {a b : Nat} (ha : a < 2 ^ 31) (hb : b < 2 ^ 31) {o1 o2 : Int} {n1 n2 n3 t1 t2 : Nat} (d : xj cc pc (.if_icmp .lt o1) 3 n1 o1 t1) (d1 : xd cc n1 (.iconst 1) 1 n2) (d2 : xj cc n2 (.goto o2) 3 n3 o2 t2) (d3 : xd cc t1 (.iconst 0) 1 t2) (kk : Wx E t2 L (.int (bI (decide (b ≤ a))) :: st) σ) : Wx E pc L (.int (nI b) :: .int (nI a) :: st) σ := by
  refine x_icmpN_lt C ha hb d (fun z => ?_) (fun z => ?_)
  · refine x_iconst C (nI 0) rfl d3 ?_
    rw [show (decide (b ≤ a)) = false from decide_eq_false (by omega)] at kk
    exact kk
  · refine x_iconst C (nI 1) rfl d1 (x_goto C d2 ?_)
    rw [show (decide (b ≤ a)) = true from decide_eq_true (by omega)] at kk
    exact kk
theorem x_icmp_ge (C : XOk E cc nL own fr lo) {x y : Int32} {off : Int} {t : Nat} (d : xj cc pc (.if_icmp .ge off) 3 n off t) (kt : y ≤ x → Wx E t L st σ) (kf : ¬ y ≤ x → Wx E n L st σ) : Wx E pc L (.int y :: .int x :: st) σ := by
  obtain ⟨d, rfl, h⟩ := d
  intro H locs ls hP hD hS hl
  exact lv_icmp_ge C.1 C.2.1 d h (fun z => kt z H locs ls hP hD hS hl) (fun z => kf z H locs ls hP hD hS hl)
theorem x_icmpN_ge (C : XOk E cc nL own fr lo) {a b : Nat} (ha : a < 2 ^ 31) (hb : b < 2 ^ 31) {off : Int} {t : Nat} (d : xj cc pc (.if_icmp .ge off) 3 n off t) (kt : b ≤ a → Wx E t L st σ) (kf : a < b → Wx E n L st σ) : Wx E pc L (.int (nI b) :: .int (nI a) :: st) σ :=
  x_icmp_ge C d (fun z => kt ((nI_leI hb ha).mp z)) (fun z => kf (Nat.lt_of_not_le (fun e => z ((nI_leI hb ha).mpr e))))
theorem x_cmpB_ge (C : XOk E cc nL own fr lo) {a b : Nat} (ha : a < 2 ^ 31) (hb : b < 2 ^ 31) {o1 o2 : Int} {n1 n2 n3 t1 t2 : Nat} (d : xj cc pc (.if_icmp .ge o1) 3 n1 o1 t1) (d1 : xd cc n1 (.iconst 1) 1 n2) (d2 : xj cc n2 (.goto o2) 3 n3 o2 t2) (d3 : xd cc t1 (.iconst 0) 1 t2) (kk : Wx E t2 L (.int (bI (decide (a < b))) :: st) σ) : Wx E pc L (.int (nI b) :: .int (nI a) :: st) σ := by
  refine x_icmpN_ge C ha hb d (fun z => ?_) (fun z => ?_)
  · refine x_iconst C (nI 0) rfl d3 ?_
    rw [show (decide (a < b)) = false from decide_eq_false (by omega)] at kk
    exact kk
  · refine x_iconst C (nI 1) rfl d1 (x_goto C d2 ?_)
    rw [show (decide (a < b)) = true from decide_eq_true (by omega)] at kk
    exact kk
theorem x_icmp_gt (C : XOk E cc nL own fr lo) {x y : Int32} {off : Int} {t : Nat} (d : xj cc pc (.if_icmp .gt off) 3 n off t) (kt : y < x → Wx E t L st σ) (kf : ¬ y < x → Wx E n L st σ) : Wx E pc L (.int y :: .int x :: st) σ := by
  obtain ⟨d, rfl, h⟩ := d
  intro H locs ls hP hD hS hl
  exact lv_icmp_gt C.1 C.2.1 d h (fun z => kt z H locs ls hP hD hS hl) (fun z => kf z H locs ls hP hD hS hl)
theorem x_icmpN_gt (C : XOk E cc nL own fr lo) {a b : Nat} (ha : a < 2 ^ 31) (hb : b < 2 ^ 31) {off : Int} {t : Nat} (d : xj cc pc (.if_icmp .gt off) 3 n off t) (kt : b < a → Wx E t L st σ) (kf : a ≤ b → Wx E n L st σ) : Wx E pc L (.int (nI b) :: .int (nI a) :: st) σ :=
  x_icmp_gt C d (fun z => kt ((nI_ltI hb ha).mp z)) (fun z => kf (Nat.le_of_not_lt (fun e => z ((nI_ltI hb ha).mpr e))))
theorem x_cmpB_gt (C : XOk E cc nL own fr lo) {a b : Nat} (ha : a < 2 ^ 31) (hb : b < 2 ^ 31) {o1 o2 : Int} {n1 n2 n3 t1 t2 : Nat} (d : xj cc pc (.if_icmp .gt o1) 3 n1 o1 t1) (d1 : xd cc n1 (.iconst 1) 1 n2) (d2 : xj cc n2 (.goto o2) 3 n3 o2 t2) (d3 : xd cc t1 (.iconst 0) 1 t2) (kk : Wx E t2 L (.int (bI (decide (a ≤ b))) :: st) σ) : Wx E pc L (.int (nI b) :: .int (nI a) :: st) σ := by
  refine x_icmpN_gt C ha hb d (fun z => ?_) (fun z => ?_)
  · refine x_iconst C (nI 0) rfl d3 ?_
    rw [show (decide (a ≤ b)) = false from decide_eq_false (by omega)] at kk
    exact kk
  · refine x_iconst C (nI 1) rfl d1 (x_goto C d2 ?_)
    rw [show (decide (a ≤ b)) = true from decide_eq_true (by omega)] at kk
    exact kk
theorem x_icmp_le (C : XOk E cc nL own fr lo) {x y : Int32} {off : Int} {t : Nat} (d : xj cc pc (.if_icmp .le off) 3 n off t) (kt : x ≤ y → Wx E t L st σ) (kf : ¬ x ≤ y → Wx E n L st σ) : Wx E pc L (.int y :: .int x :: st) σ := by
  obtain ⟨d, rfl, h⟩ := d
  intro H locs ls hP hD hS hl
  exact lv_icmp_le C.1 C.2.1 d h (fun z => kt z H locs ls hP hD hS hl) (fun z => kf z H locs ls hP hD hS hl)
theorem x_icmpN_le (C : XOk E cc nL own fr lo) {a b : Nat} (ha : a < 2 ^ 31) (hb : b < 2 ^ 31) {off : Int} {t : Nat} (d : xj cc pc (.if_icmp .le off) 3 n off t) (kt : a ≤ b → Wx E t L st σ) (kf : b < a → Wx E n L st σ) : Wx E pc L (.int (nI b) :: .int (nI a) :: st) σ :=
  x_icmp_le C d (fun z => kt ((nI_leI ha hb).mp z)) (fun z => kf (Nat.lt_of_not_le (fun e => z ((nI_leI ha hb).mpr e))))
theorem x_cmpB_le (C : XOk E cc nL own fr lo) {a b : Nat} (ha : a < 2 ^ 31) (hb : b < 2 ^ 31) {o1 o2 : Int} {n1 n2 n3 t1 t2 : Nat} (d : xj cc pc (.if_icmp .le o1) 3 n1 o1 t1) (d1 : xd cc n1 (.iconst 1) 1 n2) (d2 : xj cc n2 (.goto o2) 3 n3 o2 t2) (d3 : xd cc t1 (.iconst 0) 1 t2) (kk : Wx E t2 L (.int (bI (decide (b < a))) :: st) σ) : Wx E pc L (.int (nI b) :: .int (nI a) :: st) σ := by
  refine x_icmpN_le C ha hb d (fun z => ?_) (fun z => ?_)
  · refine x_iconst C (nI 0) rfl d3 ?_
    rw [show (decide (b < a)) = false from decide_eq_false (by omega)] at kk
    exact kk
  · refine x_iconst C (nI 1) rfl d1 (x_goto C d2 ?_)
    rw [show (decide (b < a)) = true from decide_eq_true (by omega)] at kk
    exact kk
theorem x_if_eq (C : XOk E cc nL own fr lo) {x : Int32} {off : Int} {t : Nat} (d : xj cc pc (.ifCond .eq off) 3 n off t) (kt : x = 0 → Wx E t L st σ) (kf : ¬ x = 0 → Wx E n L st σ) : Wx E pc L (.int x :: st) σ := by
  obtain ⟨d, rfl, h⟩ := d
  intro H locs ls hP hD hS hl
  exact lv_if_eq C.1 C.2.1 d h (fun z => kt z H locs ls hP hD hS hl) (fun z => kf z H locs ls hP hD hS hl)
theorem x_if_ne (C : XOk E cc nL own fr lo) {x : Int32} {off : Int} {t : Nat} (d : xj cc pc (.ifCond .ne off) 3 n off t) (kt : ¬ x = 0 → Wx E t L st σ) (kf : x = 0 → Wx E n L st σ) : Wx E pc L (.int x :: st) σ := by
  obtain ⟨d, rfl, h⟩ := d
  intro H locs ls hP hD hS hl
  exact lv_if_ne C.1 C.2.1 d h (fun z => kt z H locs ls hP hD hS hl) (fun z => kf z H locs ls hP hD hS hl)
theorem x_if_lt (C : XOk E cc nL own fr lo) {x : Int32} {off : Int} {t : Nat} (d : xj cc pc (.ifCond .lt off) 3 n off t) (kt : x < 0 → Wx E t L st σ) (kf : ¬ x < 0 → Wx E n L st σ) : Wx E pc L (.int x :: st) σ := by
  obtain ⟨d, rfl, h⟩ := d
  intro H locs ls hP hD hS hl
  exact lv_if_lt C.1 C.2.1 d h (fun z => kt z H locs ls hP hD hS hl) (fun z => kf z H locs ls hP hD hS hl)
theorem x_if_ge (C : XOk E cc nL own fr lo) {x : Int32} {off : Int} {t : Nat} (d : xj cc pc (.ifCond .ge off) 3 n off t) (kt : 0 ≤ x → Wx E t L st σ) (kf : ¬ 0 ≤ x → Wx E n L st σ) : Wx E pc L (.int x :: st) σ := by
  obtain ⟨d, rfl, h⟩ := d
  intro H locs ls hP hD hS hl
  exact lv_if_ge C.1 C.2.1 d h (fun z => kt z H locs ls hP hD hS hl) (fun z => kf z H locs ls hP hD hS hl)
theorem x_if_gt (C : XOk E cc nL own fr lo) {x : Int32} {off : Int} {t : Nat} (d : xj cc pc (.ifCond .gt off) 3 n off t) (kt : 0 < x → Wx E t L st σ) (kf : ¬ 0 < x → Wx E n L st σ) : Wx E pc L (.int x :: st) σ := by
  obtain ⟨d, rfl, h⟩ := d
  intro H locs ls hP hD hS hl
  exact lv_if_gt C.1 C.2.1 d h (fun z => kt z H locs ls hP hD hS hl) (fun z => kf z H locs ls hP hD hS hl)
theorem x_if_le (C : XOk E cc nL own fr lo) {x : Int32} {off : Int} {t : Nat} (d : xj cc pc (.ifCond .le off) 3 n off t) (kt : x ≤ 0 → Wx E t L st σ) (kf : ¬ x ≤ 0 → Wx E n L st σ) : Wx E pc L (.int x :: st) σ := by
  obtain ⟨d, rfl, h⟩ := d
  intro H locs ls hP hD hS hl
  exact lv_if_le C.1 C.2.1 d h (fun z => kt z H locs ls hP hD hS hl) (fun z => kf z H locs ls hP hD hS hl)
theorem x_ifB_eq (C : XOk E cc nL own fr lo) {b : Bool} {off : Int} {t : Nat} (d : xj cc pc (.ifCond .eq off) 3 n off t) (kt : b = false → Wx E t L st σ) (kf : b = true → Wx E n L st σ) : Wx E pc L (.int (bI b) :: st) σ :=
  x_if_eq C d (fun z => kt (bI_0.mp z)) (fun z => kf (by cases b with | true => rfl | false => exact absurd (bI_0.mpr rfl) z))
theorem x_ifB_ne (C : XOk E cc nL own fr lo) {b : Bool} {off : Int} {t : Nat} (d : xj cc pc (.ifCond .ne off) 3 n off t) (kt : b = true → Wx E t L st σ) (kf : b = false → Wx E n L st σ) : Wx E pc L (.int (bI b) :: st) σ :=
  x_if_ne C d (fun z => kt (by cases b with | true => rfl | false => exact absurd (bI_0.mpr rfl) z)) (fun z => kf (bI_0.mp z))
theorem x_ifN_lt (C : XOk E cc nL own fr lo) {a : Nat} (ha : a < 2 ^ 31) {off : Int} {t : Nat} (d : xj cc pc (.ifCond .lt off) 3 n off t) (kf : Wx E n L st σ) : Wx E pc L (.int (nI a) :: st) σ :=
  x_if_lt C d (fun z => absurd z (nI_pos ha)) (fun _ => kf)
theorem x_ifN_ge (C : XOk E cc nL own fr lo) {a : Nat} (ha : a < 2 ^ 31) {off : Int} {t : Nat} (d : xj cc pc (.ifCond .ge off) 3 n off t) (kt : Wx E t L st σ) : Wx E pc L (.int (nI a) :: st) σ :=
  x_if_ge C d (fun _ => kt) (fun z => absurd (nI_pos' ha) z)
theorem x_ifN_le (C : XOk E cc nL own fr lo) {a : Nat} (ha : a < 2 ^ 31) {off : Int} {t : Nat} (d : xj cc pc (.ifCond .le off) 3 n off t) (kt : a = 0 → Wx E t L st σ) (kf : 0 < a → Wx E n L st σ) : Wx E pc L (.int (nI a) :: st) σ :=
  x_if_le C d (fun z => kt (Nat.eq_zero_of_not_pos (fun h => nI_nle h ha z))) (fun z => kf (Nat.pos_of_ne_zero (fun h => z (by subst h; exact Int32.le_refl _))))
end XR
end
section
theorem d_x_init_0 : xd b_x_init 0 (.aload_n 0) 1 1 := ⟨by decide +kernel, rfl⟩
theorem d_x_init_1 : xd b_x_init 1 (.invokespecial 1) 3 4 := ⟨by decide +kernel, rfl⟩
theorem d_x_init_4 : xd b_x_init 4 (.aload_n 0) 1 5 := ⟨by decide +kernel, rfl⟩
theorem d_x_init_5 : xd b_x_init 5 (.iconst 5) 1 6 := ⟨by decide +kernel, rfl⟩
theorem d_x_init_6 : xd b_x_init 6 (.newarray .int) 2 8 := ⟨by decide +kernel, rfl⟩
theorem d_x_init_8 : xd b_x_init 8 (.putfield 7) 3 11 := ⟨by decide +kernel, rfl⟩
theorem d_x_init_11 : xd b_x_init 11 (.aload_n 0) 1 12 := ⟨by decide +kernel, rfl⟩
theorem d_x_init_12 : xd b_x_init 12 (.iconst 5) 1 13 := ⟨by decide +kernel, rfl⟩
theorem d_x_init_13 : xd b_x_init 13 (.newarray .int) 2 15 := ⟨by decide +kernel, rfl⟩
theorem d_x_init_15 : xd b_x_init 15 (.putfield 13) 3 18 := ⟨by decide +kernel, rfl⟩
theorem d_x_init_18 : xd b_x_init 18 (.aload_n 0) 1 19 := ⟨by decide +kernel, rfl⟩
theorem d_x_init_19 : xd b_x_init 19 (.iconst 5) 1 20 := ⟨by decide +kernel, rfl⟩
theorem d_x_init_20 : xd b_x_init 20 (.newarray .int) 2 22 := ⟨by decide +kernel, rfl⟩
theorem d_x_init_22 : xd b_x_init 22 (.putfield 16) 3 25 := ⟨by decide +kernel, rfl⟩
theorem d_x_init_25 : xd b_x_init 25 (.aload_n 0) 1 26 := ⟨by decide +kernel, rfl⟩
theorem d_x_init_26 : xd b_x_init 26 (.bipush 30) 2 28 := ⟨by decide +kernel, rfl⟩
theorem d_x_init_28 : xd b_x_init 28 (.newarray .byte) 2 30 := ⟨by decide +kernel, rfl⟩
theorem d_x_init_30 : xd b_x_init 30 (.putfield 19) 3 33 := ⟨by decide +kernel, rfl⟩
theorem d_x_init_33 : xd b_x_init 33 (.aload_n 0) 1 34 := ⟨by decide +kernel, rfl⟩
theorem d_x_init_34 : xd b_x_init 34 (.bipush 30) 2 36 := ⟨by decide +kernel, rfl⟩
theorem d_x_init_36 : xd b_x_init 36 (.newarray .byte) 2 38 := ⟨by decide +kernel, rfl⟩
theorem d_x_init_38 : xd b_x_init 38 (.putfield 23) 3 41 := ⟨by decide +kernel, rfl⟩
theorem d_x_init_41 : xd b_x_init 41 (.aload_n 0) 1 42 := ⟨by decide +kernel, rfl⟩
theorem d_x_init_42 : xd b_x_init 42 (.ldc 26) 2 44 := ⟨by decide +kernel, rfl⟩
theorem d_x_init_44 : xd b_x_init 44 (.newarray .short) 2 46 := ⟨by decide +kernel, rfl⟩
theorem d_x_init_46 : xd b_x_init 46 (.putfield 27) 3 49 := ⟨by decide +kernel, rfl⟩
theorem d_x_init_49 : xd b_x_init 49 (.aload_n 0) 1 50 := ⟨by decide +kernel, rfl⟩
theorem d_x_init_50 : xd b_x_init 50 (.bipush 61) 2 52 := ⟨by decide +kernel, rfl⟩
theorem d_x_init_52 : xd b_x_init 52 (.newarray .int) 2 54 := ⟨by decide +kernel, rfl⟩
theorem d_x_init_54 : xd b_x_init 54 (.putfield 31) 3 57 := ⟨by decide +kernel, rfl⟩
theorem d_x_init_57 : xd b_x_init 57 (.aload_n 0) 1 58 := ⟨by decide +kernel, rfl⟩
theorem d_x_init_58 : xd b_x_init 58 (.iconst (-1)) 1 59 := ⟨by decide +kernel, rfl⟩
theorem d_x_init_59 : xd b_x_init 59 (.putfield 34) 3 62 := ⟨by decide +kernel, rfl⟩
theorem d_x_init_62 : xd b_x_init 62 (.aload_n 0) 1 63 := ⟨by decide +kernel, rfl⟩
theorem d_x_init_63 : xd b_x_init 63 (.iconst (-1)) 1 64 := ⟨by decide +kernel, rfl⟩
theorem d_x_init_64 : xd b_x_init 64 (.putfield 38) 3 67 := ⟨by decide +kernel, rfl⟩
theorem d_x_init_67 : xd b_x_init 67 (.aload_n 0) 1 68 := ⟨by decide +kernel, rfl⟩
theorem d_x_init_68 : xd b_x_init 68 (.sipush 7010) 3 71 := ⟨by decide +kernel, rfl⟩
theorem d_x_init_71 : xd b_x_init 71 (.newarray .short) 2 73 := ⟨by decide +kernel, rfl⟩
theorem d_x_init_73 : xd b_x_init 73 (.putfield 41) 3 76 := ⟨by decide +kernel, rfl⟩
theorem d_x_init_76 : xd b_x_init 76 (.aload_n 0) 1 77 := ⟨by decide +kernel, rfl⟩
theorem d_x_init_77 : xd b_x_init 77 (.iconst 5) 1 78 := ⟨by decide +kernel, rfl⟩
theorem d_x_init_78 : xd b_x_init 78 (.newarray .int) 2 80 := ⟨by decide +kernel, rfl⟩
theorem d_x_init_80 : xd b_x_init 80 (.putfield 44) 3 83 := ⟨by decide +kernel, rfl⟩
theorem d_x_init_83 : xd b_x_init 83 (.aload_n 0) 1 84 := ⟨by decide +kernel, rfl⟩
theorem d_x_init_84 : xd b_x_init 84 (.iconst 5) 1 85 := ⟨by decide +kernel, rfl⟩
theorem d_x_init_85 : xd b_x_init 85 (.newarray .int) 2 87 := ⟨by decide +kernel, rfl⟩
theorem d_x_init_87 : xd b_x_init 87 (.putfield 47) 3 90 := ⟨by decide +kernel, rfl⟩
theorem d_x_init_90 : xd b_x_init 90 (.aload_n 0) 1 91 := ⟨by decide +kernel, rfl⟩
theorem d_x_init_91 : xd b_x_init 91 (.bipush 60) 2 93 := ⟨by decide +kernel, rfl⟩
theorem d_x_init_93 : xd b_x_init 93 (.newarray .byte) 2 95 := ⟨by decide +kernel, rfl⟩
theorem d_x_init_95 : xd b_x_init 95 (.putfield 50) 3 98 := ⟨by decide +kernel, rfl⟩
theorem d_x_init_98 : xd b_x_init 98 (.aload_n 0) 1 99 := ⟨by decide +kernel, rfl⟩
theorem d_x_init_99 : xd b_x_init 99 (.sipush 5000) 3 102 := ⟨by decide +kernel, rfl⟩
theorem d_x_init_102 : xd b_x_init 102 (.newarray .int) 2 104 := ⟨by decide +kernel, rfl⟩
theorem d_x_init_104 : xd b_x_init 104 (.putfield 53) 3 107 := ⟨by decide +kernel, rfl⟩
theorem d_x_init_107 : xd b_x_init 107 (.aload_n 0) 1 108 := ⟨by decide +kernel, rfl⟩
theorem d_x_init_108 : xd b_x_init 108 (.sipush 1000) 3 111 := ⟨by decide +kernel, rfl⟩
theorem d_x_init_111 : xd b_x_init 111 (.newarray .short) 2 113 := ⟨by decide +kernel, rfl⟩
theorem d_x_init_113 : xd b_x_init 113 (.putfield 56) 3 116 := ⟨by decide +kernel, rfl⟩
theorem d_x_init_116 : xd b_x_init 116 (.aload_n 0) 1 117 := ⟨by decide +kernel, rfl⟩
theorem d_x_init_117 : xd b_x_init 117 (.iconst (-1)) 1 118 := ⟨by decide +kernel, rfl⟩
theorem d_x_init_118 : xd b_x_init 118 (.putfield 59) 3 121 := ⟨by decide +kernel, rfl⟩
theorem d_x_init_121 : xd b_x_init 121 (.aload_n 0) 1 122 := ⟨by decide +kernel, rfl⟩
theorem d_x_init_122 : xd b_x_init 122 (.sipush 1000) 3 125 := ⟨by decide +kernel, rfl⟩
theorem d_x_init_125 : xd b_x_init 125 (.newarray .short) 2 127 := ⟨by decide +kernel, rfl⟩
theorem d_x_init_127 : xd b_x_init 127 (.putfield 62) 3 130 := ⟨by decide +kernel, rfl⟩
theorem d_x_init_130 : xd b_x_init 130 (.return_) 1 131 := ⟨by decide +kernel, rfl⟩
theorem d_x_isPlace_0 : xd b_x_isPlace 0 (.iload_n 1) 1 1 := ⟨by decide +kernel, rfl⟩
theorem d_x_isPlace_1 : xj b_x_isPlace 1 (.ifCond .lt 15) 3 4 (15) 16 := ⟨by decide +kernel, rfl, by decide⟩
theorem d_x_isPlace_4 : xd b_x_isPlace 4 (.iload_n 1) 1 5 := ⟨by decide +kernel, rfl⟩
theorem d_x_isPlace_5 : xd b_x_isPlace 5 (.aload_n 0) 1 6 := ⟨by decide +kernel, rfl⟩
theorem d_x_isPlace_6 : xd b_x_isPlace 6 (.getfield 65) 3 9 := ⟨by decide +kernel, rfl⟩
theorem d_x_isPlace_9 : xj b_x_isPlace 9 (.if_icmp .ge 7) 3 12 (7) 16 := ⟨by decide +kernel, rfl, by decide⟩
theorem d_x_isPlace_12 : xd b_x_isPlace 12 (.iconst 1) 1 13 := ⟨by decide +kernel, rfl⟩
theorem d_x_isPlace_13 : xj b_x_isPlace 13 (.goto 4) 3 16 (4) 17 := ⟨by decide +kernel, rfl, by decide⟩
theorem d_x_isPlace_16 : xd b_x_isPlace 16 (.iconst 0) 1 17 := ⟨by decide +kernel, rfl⟩
theorem d_x_isPlace_17 : xd b_x_isPlace 17 (.ireturn) 1 18 := ⟨by decide +kernel, rfl⟩
theorem d_x_isTransition_0 : xd b_x_isTransition 0 (.iload_n 1) 1 1 := ⟨by decide +kernel, rfl⟩
theorem d_x_isTransition_1 : xj b_x_isTransition 1 (.ifCond .lt 15) 3 4 (15) 16 := ⟨by decide +kernel, rfl, by decide⟩
theorem d_x_isTransition_4 : xd b_x_isTransition 4 (.iload_n 1) 1 5 := ⟨by decide +kernel, rfl⟩
theorem d_x_isTransition_5 : xd b_x_isTransition 5 (.aload_n 0) 1 6 := ⟨by decide +kernel, rfl⟩
theorem d_x_isTransition_6 : xd b_x_isTransition 6 (.getfield 68) 3 9 := ⟨by decide +kernel, rfl⟩
theorem d_x_isTransition_9 : xj b_x_isTransition 9 (.if_icmp .ge 7) 3 12 (7) 16 := ⟨by decide +kernel, rfl, by decide⟩
theorem d_x_isTransition_12 : xd b_x_isTransition 12 (.iconst 1) 1 13 := ⟨by decide +kernel, rfl⟩
theorem d_x_isTransition_13 : xj b_x_isTransition 13 (.goto 4) 3 16 (4) 17 := ⟨by decide +kernel, rfl, by decide⟩
theorem d_x_isTransition_16 : xd b_x_isTransition 16 (.iconst 0) 1 17 := ⟨by decide +kernel, rfl⟩
theorem d_x_isTransition_17 : xd b_x_isTransition 17 (.ireturn) 1 18 := ⟨by decide +kernel, rfl⟩
theorem d_x_isIn2_0 : xd b_x_isIn2 0 (.iload_n 0) 1 1 := ⟨by decide +kernel, rfl⟩
theorem d_x_isIn2_1 : xj b_x_isIn2 1 (.ifCond .lt 12) 3 4 (12) 13 := ⟨by decide +kernel, rfl, by decide⟩
theorem d_x_isIn2_4 : xd b_x_isIn2 4 (.iload_n 0) 1 5 := ⟨by decide +kernel, rfl⟩
theorem d_x_isIn2_5 : xd b_x_isIn2 5 (.iload_n 1) 1 6 := ⟨by decide +kernel, rfl⟩
theorem d_x_isIn2_6 : xj b_x_isIn2 6 (.if_icmp .gt 7) 3 9 (7) 13 := ⟨by decide +kernel, rfl, by decide⟩
theorem d_x_isIn2_9 : xd b_x_isIn2 9 (.iconst 1) 1 10 := ⟨by decide +kernel, rfl⟩
theorem d_x_isIn2_10 : xj b_x_isIn2 10 (.goto 4) 3 13 (4) 14 := ⟨by decide +kernel, rfl, by decide⟩
theorem d_x_isIn2_13 : xd b_x_isIn2 13 (.iconst 0) 1 14 := ⟨by decide +kernel, rfl⟩
theorem d_x_isIn2_14 : xd b_x_isIn2 14 (.ireturn) 1 15 := ⟨by decide +kernel, rfl⟩
theorem d_x_begin_0 : xd b_x_begin 0 (.aload_n 0) 1 1 := ⟨by decide +kernel, rfl⟩
theorem d_x_begin_1 : xd b_x_begin 1 (.getfield 7) 3 4 := ⟨by decide +kernel, rfl⟩
theorem d_x_begin_4 : xd b_x_begin 4 (.iconst 0) 1 5 := ⟨by decide +kernel, rfl⟩
theorem d_x_begin_5 : xd b_x_begin 5 (.aload_n 0) 1 6 := ⟨by decide +kernel, rfl⟩
theorem d_x_begin_6 : xd b_x_begin 6 (.getfield 13) 3 9 := ⟨by decide +kernel, rfl⟩
theorem d_x_begin_9 : xd b_x_begin 9 (.iconst 0) 1 10 := ⟨by decide +kernel, rfl⟩
theorem d_x_begin_10 : xd b_x_begin 10 (.iconst 5) 1 11 := ⟨by decide +kernel, rfl⟩
theorem d_x_begin_11 : xd b_x_begin 11 (.invokestatic 71) 3 14 := ⟨by decide +kernel, rfl⟩
theorem d_x_begin_14 : xd b_x_begin 14 (.return_) 1 15 := ⟨by decide +kernel, rfl⟩
theorem d_x_place_0 : xd b_x_place 0 (.aload_n 0) 1 1 := ⟨by decide +kernel, rfl⟩
theorem d_x_place_1 : xd b_x_place 1 (.getfield 65) 3 4 := ⟨by decide +kernel, rfl⟩
theorem d_x_place_4 : xd b_x_place 4 (.iconst 5) 1 5 := ⟨by decide +kernel, rfl⟩
theorem d_x_place_5 : xj b_x_place 5 (.if_icmp .eq 12) 3 8 (12) 17 := ⟨by decide +kernel, rfl, by decide⟩
theorem d_x_place_8 : xd b_x_place 8 (.iload_n 1) 1 9 := ⟨by decide +kernel, rfl⟩
theorem d_x_place_9 : xd b_x_place 9 (.bipush 20) 2 11 := ⟨by decide +kernel, rfl⟩
theorem d_x_place_11 : xd b_x_place 11 (.invokestatic 77) 3 14 := ⟨by decide +kernel, rfl⟩
theorem d_x_place_14 : xj b_x_place 14 (.ifCond .ne 5) 3 17 (5) 19 := ⟨by decide +kernel, rfl, by decide⟩
theorem d_x_place_17 : xd b_x_place 17 (.iconst (-1)) 1 18 := ⟨by decide +kernel, rfl⟩
theorem d_x_place_18 : xd b_x_place 18 (.ireturn) 1 19 := ⟨by decide +kernel, rfl⟩
theorem d_x_place_19 : xd b_x_place 19 (.aload_n 0) 1 20 := ⟨by decide +kernel, rfl⟩
theorem d_x_place_20 : xd b_x_place 20 (.getfield 7) 3 23 := ⟨by decide +kernel, rfl⟩
theorem d_x_place_23 : xd b_x_place 23 (.aload_n 0) 1 24 := ⟨by decide +kernel, rfl⟩
theorem d_x_place_24 : xd b_x_place 24 (.dup) 1 25 := ⟨by decide +kernel, rfl⟩
theorem d_x_place_25 : xd b_x_place 25 (.getfield 65) 3 28 := ⟨by decide +kernel, rfl⟩
theorem d_x_place_28 : xd b_x_place 28 (.dup_x1) 1 29 := ⟨by decide +kernel, rfl⟩
theorem d_x_place_29 : xd b_x_place 29 (.iconst 1) 1 30 := ⟨by decide +kernel, rfl⟩
theorem d_x_place_30 : xd b_x_place 30 (.iadd) 1 31 := ⟨by decide +kernel, rfl⟩
theorem d_x_place_31 : xd b_x_place 31 (.putfield 65) 3 34 := ⟨by decide +kernel, rfl⟩
theorem d_x_place_34 : xd b_x_place 34 (.iload_n 1) 1 35 := ⟨by decide +kernel, rfl⟩
theorem d_x_place_35 : xd b_x_place 35 (.iastore) 1 36 := ⟨by decide +kernel, rfl⟩
theorem d_x_place_36 : xd b_x_place 36 (.aload_n 0) 1 37 := ⟨by decide +kernel, rfl⟩
theorem d_x_place_37 : xd b_x_place 37 (.invokevirtual 81) 3 40 := ⟨by decide +kernel, rfl⟩
theorem d_x_place_40 : xd b_x_place 40 (.aload_n 0) 1 41 := ⟨by decide +kernel, rfl⟩
theorem d_x_place_41 : xd b_x_place 41 (.getfield 65) 3 44 := ⟨by decide +kernel, rfl⟩
theorem d_x_place_44 : xd b_x_place 44 (.iconst 1) 1 45 := ⟨by decide +kernel, rfl⟩
theorem d_x_place_45 : xd b_x_place 45 (.isub) 1 46 := ⟨by decide +kernel, rfl⟩
theorem d_x_place_46 : xd b_x_place 46 (.ireturn) 1 47 := ⟨by decide +kernel, rfl⟩
theorem d_x_transition_0 : xd b_x_transition 0 (.aload_n 0) 1 1 := ⟨by decide +kernel, rfl⟩
theorem d_x_transition_1 : xd b_x_transition 1 (.getfield 68) 3 4 := ⟨by decide +kernel, rfl⟩
theorem d_x_transition_4 : xd b_x_transition 4 (.bipush 6) 2 6 := ⟨by decide +kernel, rfl⟩
theorem d_x_transition_6 : xj b_x_transition 6 (.if_icmp .ne 5) 3 9 (5) 11 := ⟨by decide +kernel, rfl, by decide⟩
theorem d_x_transition_9 : xd b_x_transition 9 (.iconst (-1)) 1 10 := ⟨by decide +kernel, rfl⟩
theorem d_x_transition_10 : xd b_x_transition 10 (.ireturn) 1 11 := ⟨by decide +kernel, rfl⟩
theorem d_x_transition_11 : xd b_x_transition 11 (.aload_n 0) 1 12 := ⟨by decide +kernel, rfl⟩
theorem d_x_transition_12 : xd b_x_transition 12 (.invokevirtual 81) 3 15 := ⟨by decide +kernel, rfl⟩
theorem d_x_transition_15 : xd b_x_transition 15 (.aload_n 0) 1 16 := ⟨by decide +kernel, rfl⟩
theorem d_x_transition_16 : xd b_x_transition 16 (.dup) 1 17 := ⟨by decide +kernel, rfl⟩
theorem d_x_transition_17 : xd b_x_transition 17 (.getfield 68) 3 20 := ⟨by decide +kernel, rfl⟩
theorem d_x_transition_20 : xd b_x_transition 20 (.dup_x1) 1 21 := ⟨by decide +kernel, rfl⟩
theorem d_x_transition_21 : xd b_x_transition 21 (.iconst 1) 1 22 := ⟨by decide +kernel, rfl⟩
theorem d_x_transition_22 : xd b_x_transition 22 (.iadd) 1 23 := ⟨by decide +kernel, rfl⟩
theorem d_x_transition_23 : xd b_x_transition 23 (.putfield 68) 3 26 := ⟨by decide +kernel, rfl⟩
theorem d_x_transition_26 : xd b_x_transition 26 (.ireturn) 1 27 := ⟨by decide +kernel, rfl⟩
theorem d_x_arc_0 : xd b_x_arc 0 (.aload_n 0) 1 1 := ⟨by decide +kernel, rfl⟩
theorem d_x_arc_1 : xd b_x_arc 1 (.iload_n 1) 1 2 := ⟨by decide +kernel, rfl⟩
theorem d_x_arc_2 : xd b_x_arc 2 (.invokevirtual 84) 3 5 := ⟨by decide +kernel, rfl⟩
theorem d_x_arc_5 : xj b_x_arc 5 (.ifCond .eq 28) 3 8 (28) 33 := ⟨by decide +kernel, rfl, by decide⟩
theorem d_x_arc_8 : xd b_x_arc 8 (.aload_n 0) 1 9 := ⟨by decide +kernel, rfl⟩
theorem d_x_arc_9 : xd b_x_arc 9 (.iload_n 2) 1 10 := ⟨by decide +kernel, rfl⟩
theorem d_x_arc_10 : xd b_x_arc 10 (.invokevirtual 88) 3 13 := ⟨by decide +kernel, rfl⟩
theorem d_x_arc_13 : xj b_x_arc 13 (.ifCond .eq 20) 3 16 (20) 33 := ⟨by decide +kernel, rfl, by decide⟩
theorem d_x_arc_16 : xd b_x_arc 16 (.iload_n 3) 1 17 := ⟨by decide +kernel, rfl⟩
theorem d_x_arc_17 : xd b_x_arc 17 (.iconst 5) 1 18 := ⟨by decide +kernel, rfl⟩
theorem d_x_arc_18 : xd b_x_arc 18 (.invokestatic 77) 3 21 := ⟨by decide +kernel, rfl⟩
theorem d_x_arc_21 : xj b_x_arc 21 (.ifCond .eq 12) 3 24 (12) 33 := ⟨by decide +kernel, rfl, by decide⟩
theorem d_x_arc_24 : xd b_x_arc 24 (.iload 4) 2 26 := ⟨by decide +kernel, rfl⟩
theorem d_x_arc_26 : xd b_x_arc 26 (.iconst 5) 1 27 := ⟨by decide +kernel, rfl⟩
theorem d_x_arc_27 : xd b_x_arc 27 (.invokestatic 77) 3 30 := ⟨by decide +kernel, rfl⟩
theorem d_x_arc_30 : xj b_x_arc 30 (.ifCond .ne 5) 3 33 (5) 35 := ⟨by decide +kernel, rfl, by decide⟩
theorem d_x_arc_33 : xd b_x_arc 33 (.iconst 0) 1 34 := ⟨by decide +kernel, rfl⟩
theorem d_x_arc_34 : xd b_x_arc 34 (.ireturn) 1 35 := ⟨by decide +kernel, rfl⟩
theorem d_x_arc_35 : xd b_x_arc 35 (.aload_n 0) 1 36 := ⟨by decide +kernel, rfl⟩
theorem d_x_arc_36 : xd b_x_arc 36 (.getfield 19) 3 39 := ⟨by decide +kernel, rfl⟩
theorem d_x_arc_39 : xd b_x_arc 39 (.iconst 5) 1 40 := ⟨by decide +kernel, rfl⟩
theorem d_x_arc_40 : xd b_x_arc 40 (.iload_n 1) 1 41 := ⟨by decide +kernel, rfl⟩
theorem d_x_arc_41 : xd b_x_arc 41 (.imul) 1 42 := ⟨by decide +kernel, rfl⟩
theorem d_x_arc_42 : xd b_x_arc 42 (.iload_n 2) 1 43 := ⟨by decide +kernel, rfl⟩
theorem d_x_arc_43 : xd b_x_arc 43 (.iadd) 1 44 := ⟨by decide +kernel, rfl⟩
theorem d_x_arc_44 : xd b_x_arc 44 (.iload_n 3) 1 45 := ⟨by decide +kernel, rfl⟩
theorem d_x_arc_45 : xd b_x_arc 45 (.i2b) 1 46 := ⟨by decide +kernel, rfl⟩
theorem d_x_arc_46 : xd b_x_arc 46 (.bastore) 1 47 := ⟨by decide +kernel, rfl⟩
theorem d_x_arc_47 : xd b_x_arc 47 (.aload_n 0) 1 48 := ⟨by decide +kernel, rfl⟩
theorem d_x_arc_48 : xd b_x_arc 48 (.getfield 23) 3 51 := ⟨by decide +kernel, rfl⟩
theorem d_x_arc_51 : xd b_x_arc 51 (.iconst 5) 1 52 := ⟨by decide +kernel, rfl⟩
theorem d_x_arc_52 : xd b_x_arc 52 (.iload_n 1) 1 53 := ⟨by decide +kernel, rfl⟩
theorem d_x_arc_53 : xd b_x_arc 53 (.imul) 1 54 := ⟨by decide +kernel, rfl⟩
theorem d_x_arc_54 : xd b_x_arc 54 (.iload_n 2) 1 55 := ⟨by decide +kernel, rfl⟩
theorem d_x_arc_55 : xd b_x_arc 55 (.iadd) 1 56 := ⟨by decide +kernel, rfl⟩
theorem d_x_arc_56 : xd b_x_arc 56 (.iload 4) 2 58 := ⟨by decide +kernel, rfl⟩
theorem d_x_arc_58 : xd b_x_arc 58 (.i2b) 1 59 := ⟨by decide +kernel, rfl⟩
theorem d_x_arc_59 : xd b_x_arc 59 (.bastore) 1 60 := ⟨by decide +kernel, rfl⟩
theorem d_x_arc_60 : xd b_x_arc 60 (.aload_n 0) 1 61 := ⟨by decide +kernel, rfl⟩
theorem d_x_arc_61 : xd b_x_arc 61 (.invokevirtual 81) 3 64 := ⟨by decide +kernel, rfl⟩
theorem d_x_arc_64 : xd b_x_arc 64 (.iconst 1) 1 65 := ⟨by decide +kernel, rfl⟩
theorem d_x_arc_65 : xd b_x_arc 65 (.ireturn) 1 66 := ⟨by decide +kernel, rfl⟩
theorem d_x_target_0 : xd b_x_target 0 (.aload_n 0) 1 1 := ⟨by decide +kernel, rfl⟩
theorem d_x_target_1 : xd b_x_target 1 (.iload_n 1) 1 2 := ⟨by decide +kernel, rfl⟩
theorem d_x_target_2 : xd b_x_target 2 (.invokevirtual 88) 3 5 := ⟨by decide +kernel, rfl⟩
theorem d_x_target_5 : xj b_x_target 5 (.ifCond .eq 12) 3 8 (12) 17 := ⟨by decide +kernel, rfl, by decide⟩
theorem d_x_target_8 : xd b_x_target 8 (.iload_n 2) 1 9 := ⟨by decide +kernel, rfl⟩
theorem d_x_target_9 : xd b_x_target 9 (.bipush 20) 2 11 := ⟨by decide +kernel, rfl⟩
theorem d_x_target_11 : xd b_x_target 11 (.invokestatic 77) 3 14 := ⟨by decide +kernel, rfl⟩
theorem d_x_target_14 : xj b_x_target 14 (.ifCond .ne 5) 3 17 (5) 19 := ⟨by decide +kernel, rfl, by decide⟩
theorem d_x_target_17 : xd b_x_target 17 (.iconst 0) 1 18 := ⟨by decide +kernel, rfl⟩
theorem d_x_target_18 : xd b_x_target 18 (.ireturn) 1 19 := ⟨by decide +kernel, rfl⟩
theorem d_x_target_19 : xd b_x_target 19 (.aload_n 0) 1 20 := ⟨by decide +kernel, rfl⟩
theorem d_x_target_20 : xd b_x_target 20 (.getfield 16) 3 23 := ⟨by decide +kernel, rfl⟩
theorem d_x_target_23 : xd b_x_target 23 (.iload_n 1) 1 24 := ⟨by decide +kernel, rfl⟩
theorem d_x_target_24 : xd b_x_target 24 (.iload_n 2) 1 25 := ⟨by decide +kernel, rfl⟩
theorem d_x_target_25 : xd b_x_target 25 (.iastore) 1 26 := ⟨by decide +kernel, rfl⟩
theorem d_x_target_26 : xd b_x_target 26 (.iconst 1) 1 27 := ⟨by decide +kernel, rfl⟩
theorem d_x_target_27 : xd b_x_target 27 (.ireturn) 1 28 := ⟨by decide +kernel, rfl⟩
theorem d_x_canFire_0 : xd b_x_canFire 0 (.iconst 1) 1 1 := ⟨by decide +kernel, rfl⟩
theorem d_x_canFire_1 : xd b_x_canFire 1 (.istore 4) 2 3 := ⟨by decide +kernel, rfl⟩
theorem d_x_canFire_3 : xd b_x_canFire 3 (.iconst 0) 1 4 := ⟨by decide +kernel, rfl⟩
theorem d_x_canFire_4 : xd b_x_canFire 4 (.istore 5) 2 6 := ⟨by decide +kernel, rfl⟩
theorem d_x_canFire_6 : xd b_x_canFire 6 (.iload 5) 2 8 := ⟨by decide +kernel, rfl⟩
theorem d_x_canFire_8 : xd b_x_canFire 8 (.aload_n 0) 1 9 := ⟨by decide +kernel, rfl⟩
theorem d_x_canFire_9 : xd b_x_canFire 9 (.getfield 65) 3 12 := ⟨by decide +kernel, rfl⟩
theorem d_x_canFire_12 : xj b_x_canFire 12 (.if_icmp .ge 39) 3 15 (39) 51 := ⟨by decide +kernel, rfl, by decide⟩
theorem d_x_canFire_15 : xd b_x_canFire 15 (.iload 4) 2 17 := ⟨by decide +kernel, rfl⟩
theorem d_x_canFire_17 : xd b_x_canFire 17 (.aload_n 2) 1 18 := ⟨by decide +kernel, rfl⟩
theorem d_x_canFire_18 : xd b_x_canFire 18 (.iload_n 3) 1 19 := ⟨by decide +kernel, rfl⟩
theorem d_x_canFire_19 : xd b_x_canFire 19 (.iload 5) 2 21 := ⟨by decide +kernel, rfl⟩
theorem d_x_canFire_21 : xd b_x_canFire 21 (.iadd) 1 22 := ⟨by decide +kernel, rfl⟩
theorem d_x_canFire_22 : xd b_x_canFire 22 (.iaload) 1 23 := ⟨by decide +kernel, rfl⟩
theorem d_x_canFire_23 : xd b_x_canFire 23 (.aload_n 0) 1 24 := ⟨by decide +kernel, rfl⟩
theorem d_x_canFire_24 : xd b_x_canFire 24 (.getfield 19) 3 27 := ⟨by decide +kernel, rfl⟩
theorem d_x_canFire_27 : xd b_x_canFire 27 (.iconst 5) 1 28 := ⟨by decide +kernel, rfl⟩
theorem d_x_canFire_28 : xd b_x_canFire 28 (.iload_n 1) 1 29 := ⟨by decide +kernel, rfl⟩
theorem d_x_canFire_29 : xd b_x_canFire 29 (.imul) 1 30 := ⟨by decide +kernel, rfl⟩
theorem d_x_canFire_30 : xd b_x_canFire 30 (.iload 5) 2 32 := ⟨by decide +kernel, rfl⟩
theorem d_x_canFire_32 : xd b_x_canFire 32 (.iadd) 1 33 := ⟨by decide +kernel, rfl⟩
theorem d_x_canFire_33 : xd b_x_canFire 33 (.baload) 1 34 := ⟨by decide +kernel, rfl⟩
theorem d_x_canFire_34 : xj b_x_canFire 34 (.if_icmp .lt 7) 3 37 (7) 41 := ⟨by decide +kernel, rfl, by decide⟩
theorem d_x_canFire_37 : xd b_x_canFire 37 (.iconst 1) 1 38 := ⟨by decide +kernel, rfl⟩
theorem d_x_canFire_38 : xj b_x_canFire 38 (.goto 4) 3 41 (4) 42 := ⟨by decide +kernel, rfl, by decide⟩
theorem d_x_canFire_41 : xd b_x_canFire 41 (.iconst 0) 1 42 := ⟨by decide +kernel, rfl⟩
theorem d_x_canFire_42 : xd b_x_canFire 42 (.iand) 1 43 := ⟨by decide +kernel, rfl⟩
theorem d_x_canFire_43 : xd b_x_canFire 43 (.istore 4) 2 45 := ⟨by decide +kernel, rfl⟩
theorem d_x_canFire_45 : xd b_x_canFire 45 (.iinc 5 1) 3 48 := ⟨by decide +kernel, rfl⟩
theorem d_x_canFire_48 : xj b_x_canFire 48 (.goto (-42)) 3 51 (-42) 6 := ⟨by decide +kernel, rfl, by decide⟩
theorem d_x_canFire_51 : xd b_x_canFire 51 (.iload 4) 2 53 := ⟨by decide +kernel, rfl⟩
theorem d_x_canFire_53 : xd b_x_canFire 53 (.ireturn) 1 54 := ⟨by decide +kernel, rfl⟩
theorem d_x_fire_0 : xd b_x_fire 0 (.aload_n 0) 1 1 := ⟨by decide +kernel, rfl⟩
theorem d_x_fire_1 : xd b_x_fire 1 (.iload_n 1) 1 2 := ⟨by decide +kernel, rfl⟩
theorem d_x_fire_2 : xd b_x_fire 2 (.invokevirtual 84) 3 5 := ⟨by decide +kernel, rfl⟩
theorem d_x_fire_5 : xj b_x_fire 5 (.ifCond .eq 16) 3 8 (16) 21 := ⟨by decide +kernel, rfl, by decide⟩
theorem d_x_fire_8 : xd b_x_fire 8 (.aload_n 0) 1 9 := ⟨by decide +kernel, rfl⟩
theorem d_x_fire_9 : xd b_x_fire 9 (.iload_n 1) 1 10 := ⟨by decide +kernel, rfl⟩
theorem d_x_fire_10 : xd b_x_fire 10 (.aload_n 0) 1 11 := ⟨by decide +kernel, rfl⟩
theorem d_x_fire_11 : xd b_x_fire 11 (.getfield 13) 3 14 := ⟨by decide +kernel, rfl⟩
theorem d_x_fire_14 : xd b_x_fire 14 (.iconst 0) 1 15 := ⟨by decide +kernel, rfl⟩
theorem d_x_fire_15 : xd b_x_fire 15 (.invokevirtual 91) 3 18 := ⟨by decide +kernel, rfl⟩
theorem d_x_fire_18 : xj b_x_fire 18 (.ifCond .ne 5) 3 21 (5) 23 := ⟨by decide +kernel, rfl, by decide⟩
theorem d_x_fire_21 : xd b_x_fire 21 (.iconst 0) 1 22 := ⟨by decide +kernel, rfl⟩
theorem d_x_fire_22 : xd b_x_fire 22 (.ireturn) 1 23 := ⟨by decide +kernel, rfl⟩
theorem d_x_fire_23 : xd b_x_fire 23 (.aload_n 0) 1 24 := ⟨by decide +kernel, rfl⟩
theorem d_x_fire_24 : xd b_x_fire 24 (.iload_n 1) 1 25 := ⟨by decide +kernel, rfl⟩
theorem d_x_fire_25 : xd b_x_fire 25 (.aload_n 0) 1 26 := ⟨by decide +kernel, rfl⟩
theorem d_x_fire_26 : xd b_x_fire 26 (.getfield 13) 3 29 := ⟨by decide +kernel, rfl⟩
theorem d_x_fire_29 : xd b_x_fire 29 (.invokevirtual 95) 3 32 := ⟨by decide +kernel, rfl⟩
theorem d_x_fire_32 : xd b_x_fire 32 (.iconst 1) 1 33 := ⟨by decide +kernel, rfl⟩
theorem d_x_fire_33 : xd b_x_fire 33 (.ireturn) 1 34 := ⟨by decide +kernel, rfl⟩
theorem d_x_step_0 : xd b_x_step 0 (.iconst 0) 1 1 := ⟨by decide +kernel, rfl⟩
theorem d_x_step_1 : xd b_x_step 1 (.istore_n 3) 1 2 := ⟨by decide +kernel, rfl⟩
theorem d_x_step_2 : xd b_x_step 2 (.iload_n 3) 1 3 := ⟨by decide +kernel, rfl⟩
theorem d_x_step_3 : xd b_x_step 3 (.aload_n 0) 1 4 := ⟨by decide +kernel, rfl⟩
theorem d_x_step_4 : xd b_x_step 4 (.getfield 65) 3 7 := ⟨by decide +kernel, rfl⟩
theorem d_x_step_7 : xj b_x_step 7 (.if_icmp .ge 36) 3 10 (36) 43 := ⟨by decide +kernel, rfl, by decide⟩
theorem d_x_step_10 : xd b_x_step 10 (.aload_n 2) 1 11 := ⟨by decide +kernel, rfl⟩
theorem d_x_step_11 : xd b_x_step 11 (.iload_n 3) 1 12 := ⟨by decide +kernel, rfl⟩
theorem d_x_step_12 : xd b_x_step 12 (.dup2) 1 13 := ⟨by decide +kernel, rfl⟩
theorem d_x_step_13 : xd b_x_step 13 (.iaload) 1 14 := ⟨by decide +kernel, rfl⟩
theorem d_x_step_14 : xd b_x_step 14 (.aload_n 0) 1 15 := ⟨by decide +kernel, rfl⟩
theorem d_x_step_15 : xd b_x_step 15 (.getfield 23) 3 18 := ⟨by decide +kernel, rfl⟩
theorem d_x_step_18 : xd b_x_step 18 (.iconst 5) 1 19 := ⟨by decide +kernel, rfl⟩
theorem d_x_step_19 : xd b_x_step 19 (.iload_n 1) 1 20 := ⟨by decide +kernel, rfl⟩
theorem d_x_step_20 : xd b_x_step 20 (.imul) 1 21 := ⟨by decide +kernel, rfl⟩
theorem d_x_step_21 : xd b_x_step 21 (.iload_n 3) 1 22 := ⟨by decide +kernel, rfl⟩
theorem d_x_step_22 : xd b_x_step 22 (.iadd) 1 23 := ⟨by decide +kernel, rfl⟩
theorem d_x_step_23 : xd b_x_step 23 (.baload) 1 24 := ⟨by decide +kernel, rfl⟩
theorem d_x_step_24 : xd b_x_step 24 (.aload_n 0) 1 25 := ⟨by decide +kernel, rfl⟩
theorem d_x_step_25 : xd b_x_step 25 (.getfield 19) 3 28 := ⟨by decide +kernel, rfl⟩
theorem d_x_step_28 : xd b_x_step 28 (.iconst 5) 1 29 := ⟨by decide +kernel, rfl⟩
theorem d_x_step_29 : xd b_x_step 29 (.iload_n 1) 1 30 := ⟨by decide +kernel, rfl⟩
theorem d_x_step_30 : xd b_x_step 30 (.imul) 1 31 := ⟨by decide +kernel, rfl⟩
theorem d_x_step_31 : xd b_x_step 31 (.iload_n 3) 1 32 := ⟨by decide +kernel, rfl⟩
theorem d_x_step_32 : xd b_x_step 32 (.iadd) 1 33 := ⟨by decide +kernel, rfl⟩
theorem d_x_step_33 : xd b_x_step 33 (.baload) 1 34 := ⟨by decide +kernel, rfl⟩
theorem d_x_step_34 : xd b_x_step 34 (.isub) 1 35 := ⟨by decide +kernel, rfl⟩
theorem d_x_step_35 : xd b_x_step 35 (.iadd) 1 36 := ⟨by decide +kernel, rfl⟩
theorem d_x_step_36 : xd b_x_step 36 (.iastore) 1 37 := ⟨by decide +kernel, rfl⟩
theorem d_x_step_37 : xd b_x_step 37 (.iinc 3 1) 3 40 := ⟨by decide +kernel, rfl⟩
theorem d_x_step_40 : xj b_x_step 40 (.goto (-38)) 3 43 (-38) 2 := ⟨by decide +kernel, rfl, by decide⟩
theorem d_x_step_43 : xd b_x_step 43 (.return_) 1 44 := ⟨by decide +kernel, rfl⟩
theorem d_x_tokens_0 : xd b_x_tokens 0 (.aload_n 0) 1 1 := ⟨by decide +kernel, rfl⟩
theorem d_x_tokens_1 : xd b_x_tokens 1 (.iload_n 1) 1 2 := ⟨by decide +kernel, rfl⟩
theorem d_x_tokens_2 : xd b_x_tokens 2 (.invokevirtual 88) 3 5 := ⟨by decide +kernel, rfl⟩
theorem d_x_tokens_5 : xj b_x_tokens 5 (.ifCond .eq 12) 3 8 (12) 17 := ⟨by decide +kernel, rfl, by decide⟩
theorem d_x_tokens_8 : xd b_x_tokens 8 (.aload_n 0) 1 9 := ⟨by decide +kernel, rfl⟩
theorem d_x_tokens_9 : xd b_x_tokens 9 (.getfield 13) 3 12 := ⟨by decide +kernel, rfl⟩
theorem d_x_tokens_12 : xd b_x_tokens 12 (.iload_n 1) 1 13 := ⟨by decide +kernel, rfl⟩
theorem d_x_tokens_13 : xd b_x_tokens 13 (.iaload) 1 14 := ⟨by decide +kernel, rfl⟩
theorem d_x_tokens_14 : xj b_x_tokens 14 (.goto 4) 3 17 (4) 18 := ⟨by decide +kernel, rfl, by decide⟩
theorem d_x_tokens_17 : xd b_x_tokens 17 (.iconst (-1)) 1 18 := ⟨by decide +kernel, rfl⟩
theorem d_x_tokens_18 : xd b_x_tokens 18 (.ireturn) 1 19 := ⟨by decide +kernel, rfl⟩
theorem d_x_at_0 : xd b_x_at 0 (.iconst 5) 1 1 := ⟨by decide +kernel, rfl⟩
theorem d_x_at_1 : xd b_x_at 1 (.sipush 200) 3 4 := ⟨by decide +kernel, rfl⟩
theorem d_x_at_4 : xd b_x_at 4 (.iload_n 0) 1 5 := ⟨by decide +kernel, rfl⟩
theorem d_x_at_5 : xd b_x_at 5 (.imul) 1 6 := ⟨by decide +kernel, rfl⟩
theorem d_x_at_6 : xd b_x_at 6 (.iload_n 1) 1 7 := ⟨by decide +kernel, rfl⟩
theorem d_x_at_7 : xd b_x_at 7 (.iadd) 1 8 := ⟨by decide +kernel, rfl⟩
theorem d_x_at_8 : xd b_x_at 8 (.imul) 1 9 := ⟨by decide +kernel, rfl⟩
theorem d_x_at_9 : xd b_x_at 9 (.ireturn) 1 10 := ⟨by decide +kernel, rfl⟩
theorem d_x_isIn4_0 : xd b_x_isIn4 0 (.iconst 0) 1 1 := ⟨by decide +kernel, rfl⟩
theorem d_x_isIn4_1 : xd b_x_isIn4 1 (.istore 5) 2 3 := ⟨by decide +kernel, rfl⟩
theorem d_x_isIn4_3 : xd b_x_isIn4 3 (.iconst 0) 1 4 := ⟨by decide +kernel, rfl⟩
theorem d_x_isIn4_4 : xd b_x_isIn4 4 (.istore 6) 2 6 := ⟨by decide +kernel, rfl⟩
theorem d_x_isIn4_6 : xd b_x_isIn4 6 (.iload 6) 2 8 := ⟨by decide +kernel, rfl⟩
theorem d_x_isIn4_8 : xd b_x_isIn4 8 (.iload 4) 2 10 := ⟨by decide +kernel, rfl⟩
theorem d_x_isIn4_10 : xj b_x_isIn4 10 (.if_icmp .ge 63) 3 13 (63) 73 := ⟨by decide +kernel, rfl, by decide⟩
theorem d_x_isIn4_13 : xd b_x_isIn4 13 (.iload 5) 2 15 := ⟨by decide +kernel, rfl⟩
theorem d_x_isIn4_15 : xj b_x_isIn4 15 (.ifCond .ne 58) 3 18 (58) 73 := ⟨by decide +kernel, rfl, by decide⟩
theorem d_x_isIn4_18 : xd b_x_isIn4 18 (.iconst 1) 1 19 := ⟨by decide +kernel, rfl⟩
theorem d_x_isIn4_19 : xd b_x_isIn4 19 (.istore 5) 2 21 := ⟨by decide +kernel, rfl⟩
theorem d_x_isIn4_21 : xd b_x_isIn4 21 (.iconst 0) 1 22 := ⟨by decide +kernel, rfl⟩
theorem d_x_isIn4_22 : xd b_x_isIn4 22 (.istore 7) 2 24 := ⟨by decide +kernel, rfl⟩
theorem d_x_isIn4_24 : xd b_x_isIn4 24 (.iload 7) 2 26 := ⟨by decide +kernel, rfl⟩
theorem d_x_isIn4_26 : xd b_x_isIn4 26 (.aload_n 0) 1 27 := ⟨by decide +kernel, rfl⟩
theorem d_x_isIn4_27 : xd b_x_isIn4 27 (.getfield 65) 3 30 := ⟨by decide +kernel, rfl⟩
theorem d_x_isIn4_30 : xj b_x_isIn4 30 (.if_icmp .ge 37) 3 33 (37) 67 := ⟨by decide +kernel, rfl, by decide⟩
theorem d_x_isIn4_33 : xd b_x_isIn4 33 (.iload 5) 2 35 := ⟨by decide +kernel, rfl⟩
theorem d_x_isIn4_35 : xd b_x_isIn4 35 (.aload_n 1) 1 36 := ⟨by decide +kernel, rfl⟩
theorem d_x_isIn4_36 : xd b_x_isIn4 36 (.iload 7) 2 38 := ⟨by decide +kernel, rfl⟩
theorem d_x_isIn4_38 : xd b_x_isIn4 38 (.iaload) 1 39 := ⟨by decide +kernel, rfl⟩
theorem d_x_isIn4_39 : xd b_x_isIn4 39 (.aload_n 2) 1 40 := ⟨by decide +kernel, rfl⟩
theorem d_x_isIn4_40 : xd b_x_isIn4 40 (.iload_n 3) 1 41 := ⟨by decide +kernel, rfl⟩
theorem d_x_isIn4_41 : xd b_x_isIn4 41 (.iconst 5) 1 42 := ⟨by decide +kernel, rfl⟩
theorem d_x_isIn4_42 : xd b_x_isIn4 42 (.iload 6) 2 44 := ⟨by decide +kernel, rfl⟩
theorem d_x_isIn4_44 : xd b_x_isIn4 44 (.imul) 1 45 := ⟨by decide +kernel, rfl⟩
theorem d_x_isIn4_45 : xd b_x_isIn4 45 (.iadd) 1 46 := ⟨by decide +kernel, rfl⟩
theorem d_x_isIn4_46 : xd b_x_isIn4 46 (.iload 7) 2 48 := ⟨by decide +kernel, rfl⟩
theorem d_x_isIn4_48 : xd b_x_isIn4 48 (.iadd) 1 49 := ⟨by decide +kernel, rfl⟩
theorem d_x_isIn4_49 : xd b_x_isIn4 49 (.saload) 1 50 := ⟨by decide +kernel, rfl⟩
theorem d_x_isIn4_50 : xj b_x_isIn4 50 (.if_icmp .lt 7) 3 53 (7) 57 := ⟨by decide +kernel, rfl, by decide⟩
theorem d_x_isIn4_53 : xd b_x_isIn4 53 (.iconst 1) 1 54 := ⟨by decide +kernel, rfl⟩
theorem d_x_isIn4_54 : xj b_x_isIn4 54 (.goto 4) 3 57 (4) 58 := ⟨by decide +kernel, rfl, by decide⟩
theorem d_x_isIn4_57 : xd b_x_isIn4 57 (.iconst 0) 1 58 := ⟨by decide +kernel, rfl⟩
theorem d_x_isIn4_58 : xd b_x_isIn4 58 (.iand) 1 59 := ⟨by decide +kernel, rfl⟩
theorem d_x_isIn4_59 : xd b_x_isIn4 59 (.istore 5) 2 61 := ⟨by decide +kernel, rfl⟩
theorem d_x_isIn4_61 : xd b_x_isIn4 61 (.iinc 7 1) 3 64 := ⟨by decide +kernel, rfl⟩
theorem d_x_isIn4_64 : xj b_x_isIn4 64 (.goto (-40)) 3 67 (-40) 24 := ⟨by decide +kernel, rfl, by decide⟩
theorem d_x_isIn4_67 : xd b_x_isIn4 67 (.iinc 6 1) 3 70 := ⟨by decide +kernel, rfl⟩
theorem d_x_isIn4_70 : xj b_x_isIn4 70 (.goto (-64)) 3 73 (-64) 6 := ⟨by decide +kernel, rfl, by decide⟩
theorem d_x_isIn4_73 : xd b_x_isIn4 73 (.iload 5) 2 75 := ⟨by decide +kernel, rfl⟩
theorem d_x_isIn4_75 : xd b_x_isIn4 75 (.ireturn) 1 76 := ⟨by decide +kernel, rfl⟩
theorem d_x_isUnder_0 : xd b_x_isUnder 0 (.iconst 1) 1 1 := ⟨by decide +kernel, rfl⟩
theorem d_x_isUnder_1 : xd b_x_isUnder 1 (.istore_n 2) 1 2 := ⟨by decide +kernel, rfl⟩
theorem d_x_isUnder_2 : xd b_x_isUnder 2 (.iconst 0) 1 3 := ⟨by decide +kernel, rfl⟩
theorem d_x_isUnder_3 : xd b_x_isUnder 3 (.istore_n 3) 1 4 := ⟨by decide +kernel, rfl⟩
theorem d_x_isUnder_4 : xd b_x_isUnder 4 (.iload_n 3) 1 5 := ⟨by decide +kernel, rfl⟩
theorem d_x_isUnder_5 : xd b_x_isUnder 5 (.aload_n 0) 1 6 := ⟨by decide +kernel, rfl⟩
theorem d_x_isUnder_6 : xd b_x_isUnder 6 (.getfield 65) 3 9 := ⟨by decide +kernel, rfl⟩
theorem d_x_isUnder_9 : xj b_x_isUnder 9 (.if_icmp .ge 36) 3 12 (36) 45 := ⟨by decide +kernel, rfl, by decide⟩
theorem d_x_isUnder_12 : xd b_x_isUnder 12 (.iload_n 2) 1 13 := ⟨by decide +kernel, rfl⟩
theorem d_x_isUnder_13 : xd b_x_isUnder 13 (.aload_n 0) 1 14 := ⟨by decide +kernel, rfl⟩
theorem d_x_isUnder_14 : xd b_x_isUnder 14 (.getfield 44) 3 17 := ⟨by decide +kernel, rfl⟩
theorem d_x_isUnder_17 : xd b_x_isUnder 17 (.iload_n 3) 1 18 := ⟨by decide +kernel, rfl⟩
theorem d_x_isUnder_18 : xd b_x_isUnder 18 (.iaload) 1 19 := ⟨by decide +kernel, rfl⟩
theorem d_x_isUnder_19 : xd b_x_isUnder 19 (.aload_n 0) 1 20 := ⟨by decide +kernel, rfl⟩
theorem d_x_isUnder_20 : xd b_x_isUnder 20 (.getfield 41) 3 23 := ⟨by decide +kernel, rfl⟩
theorem d_x_isUnder_23 : xd b_x_isUnder 23 (.iconst 5) 1 24 := ⟨by decide +kernel, rfl⟩
theorem d_x_isUnder_24 : xd b_x_isUnder 24 (.iload_n 1) 1 25 := ⟨by decide +kernel, rfl⟩
theorem d_x_isUnder_25 : xd b_x_isUnder 25 (.imul) 1 26 := ⟨by decide +kernel, rfl⟩
theorem d_x_isUnder_26 : xd b_x_isUnder 26 (.iload_n 3) 1 27 := ⟨by decide +kernel, rfl⟩
theorem d_x_isUnder_27 : xd b_x_isUnder 27 (.iadd) 1 28 := ⟨by decide +kernel, rfl⟩
theorem d_x_isUnder_28 : xd b_x_isUnder 28 (.saload) 1 29 := ⟨by decide +kernel, rfl⟩
theorem d_x_isUnder_29 : xj b_x_isUnder 29 (.if_icmp .gt 7) 3 32 (7) 36 := ⟨by decide +kernel, rfl, by decide⟩
theorem d_x_isUnder_32 : xd b_x_isUnder 32 (.iconst 1) 1 33 := ⟨by decide +kernel, rfl⟩
theorem d_x_isUnder_33 : xj b_x_isUnder 33 (.goto 4) 3 36 (4) 37 := ⟨by decide +kernel, rfl, by decide⟩
theorem d_x_isUnder_36 : xd b_x_isUnder 36 (.iconst 0) 1 37 := ⟨by decide +kernel, rfl⟩
theorem d_x_isUnder_37 : xd b_x_isUnder 37 (.iand) 1 38 := ⟨by decide +kernel, rfl⟩
theorem d_x_isUnder_38 : xd b_x_isUnder 38 (.istore_n 2) 1 39 := ⟨by decide +kernel, rfl⟩
theorem d_x_isUnder_39 : xd b_x_isUnder 39 (.iinc 3 1) 3 42 := ⟨by decide +kernel, rfl⟩
theorem d_x_isUnder_42 : xj b_x_isUnder 42 (.goto (-38)) 3 45 (-38) 4 := ⟨by decide +kernel, rfl, by decide⟩
theorem d_x_isUnder_45 : xd b_x_isUnder 45 (.iload_n 2) 1 46 := ⟨by decide +kernel, rfl⟩
theorem d_x_isUnder_46 : xd b_x_isUnder 46 (.ireturn) 1 47 := ⟨by decide +kernel, rfl⟩
theorem d_x_add_0 : xd b_x_add 0 (.aload_n 0) 1 1 := ⟨by decide +kernel, rfl⟩
theorem d_x_add_1 : xd b_x_add 1 (.aload_n 0) 1 2 := ⟨by decide +kernel, rfl⟩
theorem d_x_add_2 : xd b_x_add 2 (.getfield 44) 3 5 := ⟨by decide +kernel, rfl⟩
theorem d_x_add_5 : xd b_x_add 5 (.aload_n 0) 1 6 := ⟨by decide +kernel, rfl⟩
theorem d_x_add_6 : xd b_x_add 6 (.getfield 41) 3 9 := ⟨by decide +kernel, rfl⟩
theorem d_x_add_9 : xd b_x_add 9 (.iconst 0) 1 10 := ⟨by decide +kernel, rfl⟩
theorem d_x_add_10 : xd b_x_add 10 (.aload_n 0) 1 11 := ⟨by decide +kernel, rfl⟩
theorem d_x_add_11 : xd b_x_add 11 (.getfield 99) 3 14 := ⟨by decide +kernel, rfl⟩
theorem d_x_add_14 : xd b_x_add 14 (.invokevirtual 102) 3 17 := ⟨by decide +kernel, rfl⟩
theorem d_x_add_17 : xj b_x_add 17 (.ifCond .eq 5) 3 20 (5) 22 := ⟨by decide +kernel, rfl, by decide⟩
theorem d_x_add_20 : xd b_x_add 20 (.iconst 0) 1 21 := ⟨by decide +kernel, rfl⟩
theorem d_x_add_21 : xd b_x_add 21 (.ireturn) 1 22 := ⟨by decide +kernel, rfl⟩
theorem d_x_add_22 : xd b_x_add 22 (.iconst 0) 1 23 := ⟨by decide +kernel, rfl⟩
theorem d_x_add_23 : xd b_x_add 23 (.istore_n 1) 1 24 := ⟨by decide +kernel, rfl⟩
theorem d_x_add_24 : xd b_x_add 24 (.iconst 0) 1 25 := ⟨by decide +kernel, rfl⟩
theorem d_x_add_25 : xd b_x_add 25 (.istore_n 2) 1 26 := ⟨by decide +kernel, rfl⟩
theorem d_x_add_26 : xd b_x_add 26 (.iload_n 2) 1 27 := ⟨by decide +kernel, rfl⟩
theorem d_x_add_27 : xd b_x_add 27 (.aload_n 0) 1 28 := ⟨by decide +kernel, rfl⟩
theorem d_x_add_28 : xd b_x_add 28 (.getfield 99) 3 31 := ⟨by decide +kernel, rfl⟩
theorem d_x_add_31 : xj b_x_add 31 (.if_icmp .ge 38) 3 34 (38) 69 := ⟨by decide +kernel, rfl, by decide⟩
theorem d_x_add_34 : xd b_x_add 34 (.aload_n 0) 1 35 := ⟨by decide +kernel, rfl⟩
theorem d_x_add_35 : xd b_x_add 35 (.iload_n 2) 1 36 := ⟨by decide +kernel, rfl⟩
theorem d_x_add_36 : xd b_x_add 36 (.invokevirtual 105) 3 39 := ⟨by decide +kernel, rfl⟩
theorem d_x_add_39 : xj b_x_add 39 (.ifCond .ne 24) 3 42 (24) 63 := ⟨by decide +kernel, rfl, by decide⟩
theorem d_x_add_42 : xd b_x_add 42 (.aload_n 0) 1 43 := ⟨by decide +kernel, rfl⟩
theorem d_x_add_43 : xd b_x_add 43 (.getfield 41) 3 46 := ⟨by decide +kernel, rfl⟩
theorem d_x_add_46 : xd b_x_add 46 (.iconst 5) 1 47 := ⟨by decide +kernel, rfl⟩
theorem d_x_add_47 : xd b_x_add 47 (.iload_n 2) 1 48 := ⟨by decide +kernel, rfl⟩
theorem d_x_add_48 : xd b_x_add 48 (.imul) 1 49 := ⟨by decide +kernel, rfl⟩
theorem d_x_add_49 : xd b_x_add 49 (.aload_n 0) 1 50 := ⟨by decide +kernel, rfl⟩
theorem d_x_add_50 : xd b_x_add 50 (.getfield 41) 3 53 := ⟨by decide +kernel, rfl⟩
theorem d_x_add_53 : xd b_x_add 53 (.iconst 5) 1 54 := ⟨by decide +kernel, rfl⟩
theorem d_x_add_54 : xd b_x_add 54 (.iload_n 1) 1 55 := ⟨by decide +kernel, rfl⟩
theorem d_x_add_55 : xd b_x_add 55 (.iinc 1 1) 3 58 := ⟨by decide +kernel, rfl⟩
theorem d_x_add_58 : xd b_x_add 58 (.imul) 1 59 := ⟨by decide +kernel, rfl⟩
theorem d_x_add_59 : xd b_x_add 59 (.iconst 5) 1 60 := ⟨by decide +kernel, rfl⟩
theorem d_x_add_60 : xd b_x_add 60 (.invokestatic 71) 3 63 := ⟨by decide +kernel, rfl⟩
theorem d_x_add_63 : xd b_x_add 63 (.iinc 2 1) 3 66 := ⟨by decide +kernel, rfl⟩
theorem d_x_add_66 : xj b_x_add 66 (.goto (-40)) 3 69 (-40) 26 := ⟨by decide +kernel, rfl, by decide⟩
theorem d_x_add_69 : xd b_x_add 69 (.iconst 0) 1 70 := ⟨by decide +kernel, rfl⟩
theorem d_x_add_70 : xd b_x_add 70 (.istore_n 2) 1 71 := ⟨by decide +kernel, rfl⟩
theorem d_x_add_71 : xd b_x_add 71 (.iload_n 2) 1 72 := ⟨by decide +kernel, rfl⟩
theorem d_x_add_72 : xd b_x_add 72 (.iconst 5) 1 73 := ⟨by decide +kernel, rfl⟩
theorem d_x_add_73 : xj b_x_add 73 (.if_icmp .ge 26) 3 76 (26) 99 := ⟨by decide +kernel, rfl, by decide⟩
theorem d_x_add_76 : xd b_x_add 76 (.aload_n 0) 1 77 := ⟨by decide +kernel, rfl⟩
theorem d_x_add_77 : xd b_x_add 77 (.getfield 41) 3 80 := ⟨by decide +kernel, rfl⟩
theorem d_x_add_80 : xd b_x_add 80 (.iconst 5) 1 81 := ⟨by decide +kernel, rfl⟩
theorem d_x_add_81 : xd b_x_add 81 (.iload_n 1) 1 82 := ⟨by decide +kernel, rfl⟩
theorem d_x_add_82 : xd b_x_add 82 (.imul) 1 83 := ⟨by decide +kernel, rfl⟩
theorem d_x_add_83 : xd b_x_add 83 (.iload_n 2) 1 84 := ⟨by decide +kernel, rfl⟩
theorem d_x_add_84 : xd b_x_add 84 (.iadd) 1 85 := ⟨by decide +kernel, rfl⟩
theorem d_x_add_85 : xd b_x_add 85 (.aload_n 0) 1 86 := ⟨by decide +kernel, rfl⟩
theorem d_x_add_86 : xd b_x_add 86 (.getfield 44) 3 89 := ⟨by decide +kernel, rfl⟩
theorem d_x_add_89 : xd b_x_add 89 (.iload_n 2) 1 90 := ⟨by decide +kernel, rfl⟩
theorem d_x_add_90 : xd b_x_add 90 (.iaload) 1 91 := ⟨by decide +kernel, rfl⟩
theorem d_x_add_91 : xd b_x_add 91 (.i2s) 1 92 := ⟨by decide +kernel, rfl⟩
theorem d_x_add_92 : xd b_x_add 92 (.sastore) 1 93 := ⟨by decide +kernel, rfl⟩
theorem d_x_add_93 : xd b_x_add 93 (.iinc 2 1) 3 96 := ⟨by decide +kernel, rfl⟩
theorem d_x_add_96 : xj b_x_add 96 (.goto (-25)) 3 99 (-25) 71 := ⟨by decide +kernel, rfl, by decide⟩
theorem d_x_add_99 : xd b_x_add 99 (.aload_n 0) 1 100 := ⟨by decide +kernel, rfl⟩
theorem d_x_add_100 : xd b_x_add 100 (.iload_n 1) 1 101 := ⟨by decide +kernel, rfl⟩
theorem d_x_add_101 : xd b_x_add 101 (.iconst 1) 1 102 := ⟨by decide +kernel, rfl⟩
theorem d_x_add_102 : xd b_x_add 102 (.iadd) 1 103 := ⟨by decide +kernel, rfl⟩
theorem d_x_add_103 : xd b_x_add 103 (.putfield 99) 3 106 := ⟨by decide +kernel, rfl⟩
theorem d_x_add_106 : xd b_x_add 106 (.iconst 1) 1 107 := ⟨by decide +kernel, rfl⟩
theorem d_x_add_107 : xd b_x_add 107 (.ireturn) 1 108 := ⟨by decide +kernel, rfl⟩
theorem d_x_go_0 : xd b_x_go 0 (.aload_n 0) 1 1 := ⟨by decide +kernel, rfl⟩
theorem d_x_go_1 : xd b_x_go 1 (.getfield 31) 3 4 := ⟨by decide +kernel, rfl⟩
theorem d_x_go_4 : xd b_x_go 4 (.iload_n 1) 1 5 := ⟨by decide +kernel, rfl⟩
theorem d_x_go_5 : xd b_x_go 5 (.iconst 1) 1 6 := ⟨by decide +kernel, rfl⟩
theorem d_x_go_6 : xd b_x_go 6 (.isub) 1 7 := ⟨by decide +kernel, rfl⟩
theorem d_x_go_7 : xd b_x_go 7 (.iaload) 1 8 := ⟨by decide +kernel, rfl⟩
theorem d_x_go_8 : xd b_x_go 8 (.istore_n 2) 1 9 := ⟨by decide +kernel, rfl⟩
theorem d_x_go_9 : xd b_x_go 9 (.iconst 0) 1 10 := ⟨by decide +kernel, rfl⟩
theorem d_x_go_10 : xd b_x_go 10 (.istore_n 3) 1 11 := ⟨by decide +kernel, rfl⟩
theorem d_x_go_11 : xd b_x_go 11 (.iconst 0) 1 12 := ⟨by decide +kernel, rfl⟩
theorem d_x_go_12 : xd b_x_go 12 (.istore 4) 2 14 := ⟨by decide +kernel, rfl⟩
theorem d_x_go_14 : xd b_x_go 14 (.iload 4) 2 16 := ⟨by decide +kernel, rfl⟩
theorem d_x_go_16 : xd b_x_go 16 (.iload_n 2) 1 17 := ⟨by decide +kernel, rfl⟩
theorem d_x_go_17 : xj b_x_go 17 (.if_icmp .ge 107) 3 20 (107) 124 := ⟨by decide +kernel, rfl, by decide⟩
theorem d_x_go_20 : xd b_x_go 20 (.iconst 0) 1 21 := ⟨by decide +kernel, rfl⟩
theorem d_x_go_21 : xd b_x_go 21 (.istore 5) 2 23 := ⟨by decide +kernel, rfl⟩
theorem d_x_go_23 : xd b_x_go 23 (.iload 5) 2 25 := ⟨by decide +kernel, rfl⟩
theorem d_x_go_25 : xd b_x_go 25 (.aload_n 0) 1 26 := ⟨by decide +kernel, rfl⟩
theorem d_x_go_26 : xd b_x_go 26 (.getfield 68) 3 29 := ⟨by decide +kernel, rfl⟩
theorem d_x_go_29 : xj b_x_go 29 (.if_icmp .ge 89) 3 32 (89) 118 := ⟨by decide +kernel, rfl, by decide⟩
theorem d_x_go_32 : xd b_x_go 32 (.iconst 0) 1 33 := ⟨by decide +kernel, rfl⟩
theorem d_x_go_33 : xd b_x_go 33 (.istore 6) 2 35 := ⟨by decide +kernel, rfl⟩
theorem d_x_go_35 : xd b_x_go 35 (.iload 6) 2 37 := ⟨by decide +kernel, rfl⟩
theorem d_x_go_37 : xd b_x_go 37 (.iconst 5) 1 38 := ⟨by decide +kernel, rfl⟩
theorem d_x_go_38 : xj b_x_go 38 (.if_icmp .ge 67) 3 41 (67) 105 := ⟨by decide +kernel, rfl, by decide⟩
theorem d_x_go_41 : xd b_x_go 41 (.aload_n 0) 1 42 := ⟨by decide +kernel, rfl⟩
theorem d_x_go_42 : xd b_x_go 42 (.getfield 19) 3 45 := ⟨by decide +kernel, rfl⟩
theorem d_x_go_45 : xd b_x_go 45 (.iconst 5) 1 46 := ⟨by decide +kernel, rfl⟩
theorem d_x_go_46 : xd b_x_go 46 (.iload 5) 2 48 := ⟨by decide +kernel, rfl⟩
theorem d_x_go_48 : xd b_x_go 48 (.imul) 1 49 := ⟨by decide +kernel, rfl⟩
theorem d_x_go_49 : xd b_x_go 49 (.iload 6) 2 51 := ⟨by decide +kernel, rfl⟩
theorem d_x_go_51 : xd b_x_go 51 (.iadd) 1 52 := ⟨by decide +kernel, rfl⟩
theorem d_x_go_52 : xd b_x_go 52 (.baload) 1 53 := ⟨by decide +kernel, rfl⟩
theorem d_x_go_53 : xd b_x_go 53 (.istore 7) 2 55 := ⟨by decide +kernel, rfl⟩
theorem d_x_go_55 : xd b_x_go 55 (.aload_n 0) 1 56 := ⟨by decide +kernel, rfl⟩
theorem d_x_go_56 : xd b_x_go 56 (.getfield 44) 3 59 := ⟨by decide +kernel, rfl⟩
theorem d_x_go_59 : xd b_x_go 59 (.iload 6) 2 61 := ⟨by decide +kernel, rfl⟩
theorem d_x_go_61 : xd b_x_go 61 (.iload 7) 2 63 := ⟨by decide +kernel, rfl⟩
theorem d_x_go_63 : xd b_x_go 63 (.aload_n 0) 1 64 := ⟨by decide +kernel, rfl⟩
theorem d_x_go_64 : xd b_x_go 64 (.getfield 27) 3 67 := ⟨by decide +kernel, rfl⟩
theorem d_x_go_67 : xd b_x_go 67 (.iload_n 1) 1 68 := ⟨by decide +kernel, rfl⟩
theorem d_x_go_68 : xd b_x_go 68 (.iconst 1) 1 69 := ⟨by decide +kernel, rfl⟩
theorem d_x_go_69 : xd b_x_go 69 (.isub) 1 70 := ⟨by decide +kernel, rfl⟩
theorem d_x_go_70 : xd b_x_go 70 (.iload 4) 2 72 := ⟨by decide +kernel, rfl⟩
theorem d_x_go_72 : xd b_x_go 72 (.invokestatic 108) 3 75 := ⟨by decide +kernel, rfl⟩
theorem d_x_go_75 : xd b_x_go 75 (.iload 6) 2 77 := ⟨by decide +kernel, rfl⟩
theorem d_x_go_77 : xd b_x_go 77 (.iadd) 1 78 := ⟨by decide +kernel, rfl⟩
theorem d_x_go_78 : xd b_x_go 78 (.saload) 1 79 := ⟨by decide +kernel, rfl⟩
theorem d_x_go_79 : xd b_x_go 79 (.iload 7) 2 81 := ⟨by decide +kernel, rfl⟩
theorem d_x_go_81 : xd b_x_go 81 (.iadd) 1 82 := ⟨by decide +kernel, rfl⟩
theorem d_x_go_82 : xd b_x_go 82 (.aload_n 0) 1 83 := ⟨by decide +kernel, rfl⟩
theorem d_x_go_83 : xd b_x_go 83 (.getfield 23) 3 86 := ⟨by decide +kernel, rfl⟩
theorem d_x_go_86 : xd b_x_go 86 (.iconst 5) 1 87 := ⟨by decide +kernel, rfl⟩
theorem d_x_go_87 : xd b_x_go 87 (.iload 5) 2 89 := ⟨by decide +kernel, rfl⟩
theorem d_x_go_89 : xd b_x_go 89 (.imul) 1 90 := ⟨by decide +kernel, rfl⟩
theorem d_x_go_90 : xd b_x_go 90 (.iload 6) 2 92 := ⟨by decide +kernel, rfl⟩
theorem d_x_go_92 : xd b_x_go 92 (.iadd) 1 93 := ⟨by decide +kernel, rfl⟩
theorem d_x_go_93 : xd b_x_go 93 (.baload) 1 94 := ⟨by decide +kernel, rfl⟩
theorem d_x_go_94 : xd b_x_go 94 (.isub) 1 95 := ⟨by decide +kernel, rfl⟩
theorem d_x_go_95 : xd b_x_go 95 (.invokestatic 112) 3 98 := ⟨by decide +kernel, rfl⟩
theorem d_x_go_98 : xd b_x_go 98 (.iastore) 1 99 := ⟨by decide +kernel, rfl⟩
theorem d_x_go_99 : xd b_x_go 99 (.iinc 6 1) 3 102 := ⟨by decide +kernel, rfl⟩
theorem d_x_go_102 : xj b_x_go 102 (.goto (-67)) 3 105 (-67) 35 := ⟨by decide +kernel, rfl, by decide⟩
theorem d_x_go_105 : xd b_x_go 105 (.iload_n 3) 1 106 := ⟨by decide +kernel, rfl⟩
theorem d_x_go_106 : xd b_x_go 106 (.aload_n 0) 1 107 := ⟨by decide +kernel, rfl⟩
theorem d_x_go_107 : xd b_x_go 107 (.invokevirtual 117) 3 110 := ⟨by decide +kernel, rfl⟩
theorem d_x_go_110 : xd b_x_go 110 (.ior) 1 111 := ⟨by decide +kernel, rfl⟩
theorem d_x_go_111 : xd b_x_go 111 (.istore_n 3) 1 112 := ⟨by decide +kernel, rfl⟩
theorem d_x_go_112 : xd b_x_go 112 (.iinc 5 1) 3 115 := ⟨by decide +kernel, rfl⟩
theorem d_x_go_115 : xj b_x_go 115 (.goto (-92)) 3 118 (-92) 23 := ⟨by decide +kernel, rfl, by decide⟩
theorem d_x_go_118 : xd b_x_go 118 (.iinc 4 1) 3 121 := ⟨by decide +kernel, rfl⟩
theorem d_x_go_121 : xj b_x_go 121 (.goto (-107)) 3 124 (-107) 14 := ⟨by decide +kernel, rfl, by decide⟩
theorem d_x_go_124 : xd b_x_go 124 (.aload_n 0) 1 125 := ⟨by decide +kernel, rfl⟩
theorem d_x_go_125 : xd b_x_go 125 (.iload_n 1) 1 126 := ⟨by decide +kernel, rfl⟩
theorem d_x_go_126 : xd b_x_go 126 (.invokevirtual 121) 3 129 := ⟨by decide +kernel, rfl⟩
theorem d_x_go_129 : xd b_x_go 129 (.iload_n 3) 1 130 := ⟨by decide +kernel, rfl⟩
theorem d_x_go_130 : xd b_x_go 130 (.ireturn) 1 131 := ⟨by decide +kernel, rfl⟩
theorem d_x_keep_0 : xd b_x_keep 0 (.aload_n 0) 1 1 := ⟨by decide +kernel, rfl⟩
theorem d_x_keep_1 : xd b_x_keep 1 (.getfield 31) 3 4 := ⟨by decide +kernel, rfl⟩
theorem d_x_keep_4 : xd b_x_keep 4 (.iload_n 1) 1 5 := ⟨by decide +kernel, rfl⟩
theorem d_x_keep_5 : xd b_x_keep 5 (.aload_n 0) 1 6 := ⟨by decide +kernel, rfl⟩
theorem d_x_keep_6 : xd b_x_keep 6 (.getfield 99) 3 9 := ⟨by decide +kernel, rfl⟩
theorem d_x_keep_9 : xd b_x_keep 9 (.iastore) 1 10 := ⟨by decide +kernel, rfl⟩
theorem d_x_keep_10 : xd b_x_keep 10 (.aload_n 0) 1 11 := ⟨by decide +kernel, rfl⟩
theorem d_x_keep_11 : xd b_x_keep 11 (.getfield 99) 3 14 := ⟨by decide +kernel, rfl⟩
theorem d_x_keep_14 : xd b_x_keep 14 (.sipush 200) 3 17 := ⟨by decide +kernel, rfl⟩
theorem d_x_keep_17 : xj b_x_keep 17 (.if_icmp .gt 26) 3 20 (26) 43 := ⟨by decide +kernel, rfl, by decide⟩
theorem d_x_keep_20 : xd b_x_keep 20 (.aload_n 0) 1 21 := ⟨by decide +kernel, rfl⟩
theorem d_x_keep_21 : xd b_x_keep 21 (.getfield 41) 3 24 := ⟨by decide +kernel, rfl⟩
theorem d_x_keep_24 : xd b_x_keep 24 (.iconst 0) 1 25 := ⟨by decide +kernel, rfl⟩
theorem d_x_keep_25 : xd b_x_keep 25 (.aload_n 0) 1 26 := ⟨by decide +kernel, rfl⟩
theorem d_x_keep_26 : xd b_x_keep 26 (.getfield 27) 3 29 := ⟨by decide +kernel, rfl⟩
theorem d_x_keep_29 : xd b_x_keep 29 (.iload_n 1) 1 30 := ⟨by decide +kernel, rfl⟩
theorem d_x_keep_30 : xd b_x_keep 30 (.iconst 0) 1 31 := ⟨by decide +kernel, rfl⟩
theorem d_x_keep_31 : xd b_x_keep 31 (.invokestatic 108) 3 34 := ⟨by decide +kernel, rfl⟩
theorem d_x_keep_34 : xd b_x_keep 34 (.iconst 5) 1 35 := ⟨by decide +kernel, rfl⟩
theorem d_x_keep_35 : xd b_x_keep 35 (.aload_n 0) 1 36 := ⟨by decide +kernel, rfl⟩
theorem d_x_keep_36 : xd b_x_keep 36 (.getfield 99) 3 39 := ⟨by decide +kernel, rfl⟩
theorem d_x_keep_39 : xd b_x_keep 39 (.imul) 1 40 := ⟨by decide +kernel, rfl⟩
theorem d_x_keep_40 : xd b_x_keep 40 (.invokestatic 71) 3 43 := ⟨by decide +kernel, rfl⟩
theorem d_x_keep_43 : xd b_x_keep 43 (.return_) 1 44 := ⟨by decide +kernel, rfl⟩
theorem d_x_rounds_0 : xd b_x_rounds 0 (.iconst 0) 1 1 := ⟨by decide +kernel, rfl⟩
theorem d_x_rounds_1 : xd b_x_rounds 1 (.istore_n 1) 1 2 := ⟨by decide +kernel, rfl⟩
theorem d_x_rounds_2 : xd b_x_rounds 2 (.iload_n 1) 1 3 := ⟨by decide +kernel, rfl⟩
theorem d_x_rounds_3 : xd b_x_rounds 3 (.iconst 5) 1 4 := ⟨by decide +kernel, rfl⟩
theorem d_x_rounds_4 : xj b_x_rounds 4 (.if_icmp .ge 22) 3 7 (22) 26 := ⟨by decide +kernel, rfl, by decide⟩
theorem d_x_rounds_7 : xd b_x_rounds 7 (.aload_n 0) 1 8 := ⟨by decide +kernel, rfl⟩
theorem d_x_rounds_8 : xd b_x_rounds 8 (.getfield 41) 3 11 := ⟨by decide +kernel, rfl⟩
theorem d_x_rounds_11 : xd b_x_rounds 11 (.iload_n 1) 1 12 := ⟨by decide +kernel, rfl⟩
theorem d_x_rounds_12 : xd b_x_rounds 12 (.aload_n 0) 1 13 := ⟨by decide +kernel, rfl⟩
theorem d_x_rounds_13 : xd b_x_rounds 13 (.getfield 16) 3 16 := ⟨by decide +kernel, rfl⟩
theorem d_x_rounds_16 : xd b_x_rounds 16 (.iload_n 1) 1 17 := ⟨by decide +kernel, rfl⟩
theorem d_x_rounds_17 : xd b_x_rounds 17 (.iaload) 1 18 := ⟨by decide +kernel, rfl⟩
theorem d_x_rounds_18 : xd b_x_rounds 18 (.i2s) 1 19 := ⟨by decide +kernel, rfl⟩
theorem d_x_rounds_19 : xd b_x_rounds 19 (.sastore) 1 20 := ⟨by decide +kernel, rfl⟩
theorem d_x_rounds_20 : xd b_x_rounds 20 (.iinc 1 1) 3 23 := ⟨by decide +kernel, rfl⟩
theorem d_x_rounds_23 : xj b_x_rounds 23 (.goto (-21)) 3 26 (-21) 2 := ⟨by decide +kernel, rfl, by decide⟩
theorem d_x_rounds_26 : xd b_x_rounds 26 (.aload_n 0) 1 27 := ⟨by decide +kernel, rfl⟩
theorem d_x_rounds_27 : xd b_x_rounds 27 (.iconst 1) 1 28 := ⟨by decide +kernel, rfl⟩
theorem d_x_rounds_28 : xd b_x_rounds 28 (.putfield 99) 3 31 := ⟨by decide +kernel, rfl⟩
theorem d_x_rounds_31 : xd b_x_rounds 31 (.aload_n 0) 1 32 := ⟨by decide +kernel, rfl⟩
theorem d_x_rounds_32 : xd b_x_rounds 32 (.iconst 0) 1 33 := ⟨by decide +kernel, rfl⟩
theorem d_x_rounds_33 : xd b_x_rounds 33 (.invokevirtual 121) 3 36 := ⟨by decide +kernel, rfl⟩
theorem d_x_rounds_36 : xd b_x_rounds 36 (.iconst 1) 1 37 := ⟨by decide +kernel, rfl⟩
theorem d_x_rounds_37 : xd b_x_rounds 37 (.istore_n 1) 1 38 := ⟨by decide +kernel, rfl⟩
theorem d_x_rounds_38 : xd b_x_rounds 38 (.iconst 1) 1 39 := ⟨by decide +kernel, rfl⟩
theorem d_x_rounds_39 : xd b_x_rounds 39 (.istore_n 2) 1 40 := ⟨by decide +kernel, rfl⟩
theorem d_x_rounds_40 : xd b_x_rounds 40 (.iconst 0) 1 41 := ⟨by decide +kernel, rfl⟩
theorem d_x_rounds_41 : xd b_x_rounds 41 (.istore_n 3) 1 42 := ⟨by decide +kernel, rfl⟩
theorem d_x_rounds_42 : xd b_x_rounds 42 (.aload_n 0) 1 43 := ⟨by decide +kernel, rfl⟩
theorem d_x_rounds_43 : xd b_x_rounds 43 (.iconst (-1)) 1 44 := ⟨by decide +kernel, rfl⟩
theorem d_x_rounds_44 : xd b_x_rounds 44 (.putfield 38) 3 47 := ⟨by decide +kernel, rfl⟩
theorem d_x_rounds_47 : xd b_x_rounds 47 (.iload_n 2) 1 48 := ⟨by decide +kernel, rfl⟩
theorem d_x_rounds_48 : xj b_x_rounds 48 (.ifCond .eq 101) 3 51 (101) 149 := ⟨by decide +kernel, rfl, by decide⟩
theorem d_x_rounds_51 : xd b_x_rounds 51 (.aload_n 0) 1 52 := ⟨by decide +kernel, rfl⟩
theorem d_x_rounds_52 : xd b_x_rounds 52 (.iload_n 3) 1 53 := ⟨by decide +kernel, rfl⟩
theorem d_x_rounds_53 : xd b_x_rounds 53 (.putfield 34) 3 56 := ⟨by decide +kernel, rfl⟩
theorem d_x_rounds_56 : xd b_x_rounds 56 (.aload_n 0) 1 57 := ⟨by decide +kernel, rfl⟩
theorem d_x_rounds_57 : xd b_x_rounds 57 (.aload_n 0) 1 58 := ⟨by decide +kernel, rfl⟩
theorem d_x_rounds_58 : xd b_x_rounds 58 (.getfield 7) 3 61 := ⟨by decide +kernel, rfl⟩
theorem d_x_rounds_61 : xd b_x_rounds 61 (.aload_n 0) 1 62 := ⟨by decide +kernel, rfl⟩
theorem d_x_rounds_62 : xd b_x_rounds 62 (.getfield 41) 3 65 := ⟨by decide +kernel, rfl⟩
theorem d_x_rounds_65 : xd b_x_rounds 65 (.iconst 0) 1 66 := ⟨by decide +kernel, rfl⟩
theorem d_x_rounds_66 : xd b_x_rounds 66 (.aload_n 0) 1 67 := ⟨by decide +kernel, rfl⟩
theorem d_x_rounds_67 : xd b_x_rounds 67 (.getfield 99) 3 70 := ⟨by decide +kernel, rfl⟩
theorem d_x_rounds_70 : xd b_x_rounds 70 (.invokevirtual 102) 3 73 := ⟨by decide +kernel, rfl⟩
theorem d_x_rounds_73 : xj b_x_rounds 73 (.ifCond .eq 11) 3 76 (11) 84 := ⟨by decide +kernel, rfl, by decide⟩
theorem d_x_rounds_76 : xd b_x_rounds 76 (.aload_n 0) 1 77 := ⟨by decide +kernel, rfl⟩
theorem d_x_rounds_77 : xd b_x_rounds 77 (.iconst 1) 1 78 := ⟨by decide +kernel, rfl⟩
theorem d_x_rounds_78 : xd b_x_rounds 78 (.putfield 38) 3 81 := ⟨by decide +kernel, rfl⟩
theorem d_x_rounds_81 : xj b_x_rounds 81 (.goto 22) 3 84 (22) 103 := ⟨by decide +kernel, rfl, by decide⟩
theorem d_x_rounds_84 : xd b_x_rounds 84 (.aload_n 0) 1 85 := ⟨by decide +kernel, rfl⟩
theorem d_x_rounds_85 : xd b_x_rounds 85 (.getfield 99) 3 88 := ⟨by decide +kernel, rfl⟩
theorem d_x_rounds_88 : xd b_x_rounds 88 (.sipush 200) 3 91 := ⟨by decide +kernel, rfl⟩
theorem d_x_rounds_91 : xj b_x_rounds 91 (.if_icmp .gt 12) 3 94 (12) 103 := ⟨by decide +kernel, rfl, by decide⟩
theorem d_x_rounds_94 : xd b_x_rounds 94 (.iload_n 1) 1 95 := ⟨by decide +kernel, rfl⟩
theorem d_x_rounds_95 : xj b_x_rounds 95 (.ifCond .ne 8) 3 98 (8) 103 := ⟨by decide +kernel, rfl, by decide⟩
theorem d_x_rounds_98 : xd b_x_rounds 98 (.aload_n 0) 1 99 := ⟨by decide +kernel, rfl⟩
theorem d_x_rounds_99 : xd b_x_rounds 99 (.iconst 0) 1 100 := ⟨by decide +kernel, rfl⟩
theorem d_x_rounds_100 : xd b_x_rounds 100 (.putfield 38) 3 103 := ⟨by decide +kernel, rfl⟩
theorem d_x_rounds_103 : xd b_x_rounds 103 (.aload_n 0) 1 104 := ⟨by decide +kernel, rfl⟩
theorem d_x_rounds_104 : xd b_x_rounds 104 (.getfield 38) 3 107 := ⟨by decide +kernel, rfl⟩
theorem d_x_rounds_107 : xd b_x_rounds 107 (.iconst (-1)) 1 108 := ⟨by decide +kernel, rfl⟩
theorem d_x_rounds_108 : xj b_x_rounds 108 (.if_icmp .ne 23) 3 111 (23) 131 := ⟨by decide +kernel, rfl, by decide⟩
theorem d_x_rounds_111 : xd b_x_rounds 111 (.aload_n 0) 1 112 := ⟨by decide +kernel, rfl⟩
theorem d_x_rounds_112 : xd b_x_rounds 112 (.getfield 99) 3 115 := ⟨by decide +kernel, rfl⟩
theorem d_x_rounds_115 : xd b_x_rounds 115 (.sipush 200) 3 118 := ⟨by decide +kernel, rfl⟩
theorem d_x_rounds_118 : xj b_x_rounds 118 (.if_icmp .gt 13) 3 121 (13) 131 := ⟨by decide +kernel, rfl, by decide⟩
theorem d_x_rounds_121 : xd b_x_rounds 121 (.iload_n 3) 1 122 := ⟨by decide +kernel, rfl⟩
theorem d_x_rounds_122 : xd b_x_rounds 122 (.bipush 60) 2 124 := ⟨by decide +kernel, rfl⟩
theorem d_x_rounds_124 : xj b_x_rounds 124 (.if_icmp .ge 7) 3 127 (7) 131 := ⟨by decide +kernel, rfl, by decide⟩
theorem d_x_rounds_127 : xd b_x_rounds 127 (.iconst 1) 1 128 := ⟨by decide +kernel, rfl⟩
theorem d_x_rounds_128 : xj b_x_rounds 128 (.goto 4) 3 131 (4) 132 := ⟨by decide +kernel, rfl, by decide⟩
theorem d_x_rounds_131 : xd b_x_rounds 131 (.iconst 0) 1 132 := ⟨by decide +kernel, rfl⟩
theorem d_x_rounds_132 : xd b_x_rounds 132 (.istore_n 2) 1 133 := ⟨by decide +kernel, rfl⟩
theorem d_x_rounds_133 : xd b_x_rounds 133 (.iload_n 2) 1 134 := ⟨by decide +kernel, rfl⟩
theorem d_x_rounds_134 : xj b_x_rounds 134 (.ifCond .eq (-87)) 3 137 (-87) 47 := ⟨by decide +kernel, rfl, by decide⟩
theorem d_x_rounds_137 : xd b_x_rounds 137 (.iinc 3 1) 3 140 := ⟨by decide +kernel, rfl⟩
theorem d_x_rounds_140 : xd b_x_rounds 140 (.aload_n 0) 1 141 := ⟨by decide +kernel, rfl⟩
theorem d_x_rounds_141 : xd b_x_rounds 141 (.iload_n 3) 1 142 := ⟨by decide +kernel, rfl⟩
theorem d_x_rounds_142 : xd b_x_rounds 142 (.invokevirtual 125) 3 145 := ⟨by decide +kernel, rfl⟩
theorem d_x_rounds_145 : xd b_x_rounds 145 (.istore_n 1) 1 146 := ⟨by decide +kernel, rfl⟩
theorem d_x_rounds_146 : xj b_x_rounds 146 (.goto (-99)) 3 149 (-99) 47 := ⟨by decide +kernel, rfl, by decide⟩
theorem d_x_rounds_149 : xd b_x_rounds 149 (.aload_n 0) 1 150 := ⟨by decide +kernel, rfl⟩
theorem d_x_rounds_150 : xd b_x_rounds 150 (.getfield 38) 3 153 := ⟨by decide +kernel, rfl⟩
theorem d_x_rounds_153 : xd b_x_rounds 153 (.iconst 1) 1 154 := ⟨by decide +kernel, rfl⟩
theorem d_x_rounds_154 : xj b_x_rounds 154 (.if_icmp .ne 8) 3 157 (8) 162 := ⟨by decide +kernel, rfl, by decide⟩
theorem d_x_rounds_157 : xd b_x_rounds 157 (.aload_n 0) 1 158 := ⟨by decide +kernel, rfl⟩
theorem d_x_rounds_158 : xd b_x_rounds 158 (.iload_n 3) 1 159 := ⟨by decide +kernel, rfl⟩
theorem d_x_rounds_159 : xd b_x_rounds 159 (.invokevirtual 128) 3 162 := ⟨by decide +kernel, rfl⟩
theorem d_x_rounds_162 : xd b_x_rounds 162 (.aload_n 0) 1 163 := ⟨by decide +kernel, rfl⟩
theorem d_x_rounds_163 : xd b_x_rounds 163 (.getfield 38) 3 166 := ⟨by decide +kernel, rfl⟩
theorem d_x_rounds_166 : xd b_x_rounds 166 (.ireturn) 1 167 := ⟨by decide +kernel, rfl⟩
theorem d_x_find_0 : xd b_x_find 0 (.aload_n 0) 1 1 := ⟨by decide +kernel, rfl⟩
theorem d_x_find_1 : xd b_x_find 1 (.getfield 7) 3 4 := ⟨by decide +kernel, rfl⟩
theorem d_x_find_4 : xd b_x_find 4 (.iconst 0) 1 5 := ⟨by decide +kernel, rfl⟩
theorem d_x_find_5 : xd b_x_find 5 (.aload_n 0) 1 6 := ⟨by decide +kernel, rfl⟩
theorem d_x_find_6 : xd b_x_find 6 (.getfield 47) 3 9 := ⟨by decide +kernel, rfl⟩
theorem d_x_find_9 : xd b_x_find 9 (.iconst 0) 1 10 := ⟨by decide +kernel, rfl⟩
theorem d_x_find_10 : xd b_x_find 10 (.iconst 5) 1 11 := ⟨by decide +kernel, rfl⟩
theorem d_x_find_11 : xd b_x_find 11 (.invokestatic 71) 3 14 := ⟨by decide +kernel, rfl⟩
theorem d_x_find_14 : xd b_x_find 14 (.iconst 0) 1 15 := ⟨by decide +kernel, rfl⟩
theorem d_x_find_15 : xd b_x_find 15 (.istore_n 2) 1 16 := ⟨by decide +kernel, rfl⟩
theorem d_x_find_16 : xd b_x_find 16 (.iload_n 2) 1 17 := ⟨by decide +kernel, rfl⟩
theorem d_x_find_17 : xd b_x_find 17 (.iload_n 1) 1 18 := ⟨by decide +kernel, rfl⟩
theorem d_x_find_18 : xj b_x_find 18 (.if_icmp .ge 47) 3 21 (47) 65 := ⟨by decide +kernel, rfl, by decide⟩
theorem d_x_find_21 : xd b_x_find 21 (.iconst 0) 1 22 := ⟨by decide +kernel, rfl⟩
theorem d_x_find_22 : xd b_x_find 22 (.istore_n 3) 1 23 := ⟨by decide +kernel, rfl⟩
theorem d_x_find_23 : xd b_x_find 23 (.aload_n 0) 1 24 := ⟨by decide +kernel, rfl⟩
theorem d_x_find_24 : xd b_x_find 24 (.iload_n 3) 1 25 := ⟨by decide +kernel, rfl⟩
theorem d_x_find_25 : xd b_x_find 25 (.iload_n 1) 1 26 := ⟨by decide +kernel, rfl⟩
theorem d_x_find_26 : xd b_x_find 26 (.iload_n 2) 1 27 := ⟨by decide +kernel, rfl⟩
theorem d_x_find_27 : xd b_x_find 27 (.isub) 1 28 := ⟨by decide +kernel, rfl⟩
theorem d_x_find_28 : xd b_x_find 28 (.iconst 1) 1 29 := ⟨by decide +kernel, rfl⟩
theorem d_x_find_29 : xd b_x_find 29 (.isub) 1 30 := ⟨by decide +kernel, rfl⟩
theorem d_x_find_30 : xd b_x_find 30 (.invokevirtual 131) 3 33 := ⟨by decide +kernel, rfl⟩
theorem d_x_find_33 : xj b_x_find 33 (.ifCond .ne 9) 3 36 (9) 42 := ⟨by decide +kernel, rfl, by decide⟩
theorem d_x_find_36 : xd b_x_find 36 (.iinc 3 1) 3 39 := ⟨by decide +kernel, rfl⟩
theorem d_x_find_39 : xj b_x_find 39 (.goto (-16)) 3 42 (-16) 23 := ⟨by decide +kernel, rfl, by decide⟩
theorem d_x_find_42 : xd b_x_find 42 (.aload_n 0) 1 43 := ⟨by decide +kernel, rfl⟩
theorem d_x_find_43 : xd b_x_find 43 (.iload_n 3) 1 44 := ⟨by decide +kernel, rfl⟩
theorem d_x_find_44 : xd b_x_find 44 (.aload_n 0) 1 45 := ⟨by decide +kernel, rfl⟩
theorem d_x_find_45 : xd b_x_find 45 (.getfield 47) 3 48 := ⟨by decide +kernel, rfl⟩
theorem d_x_find_48 : xd b_x_find 48 (.invokevirtual 95) 3 51 := ⟨by decide +kernel, rfl⟩
theorem d_x_find_51 : xd b_x_find 51 (.aload_n 0) 1 52 := ⟨by decide +kernel, rfl⟩
theorem d_x_find_52 : xd b_x_find 52 (.getfield 50) 3 55 := ⟨by decide +kernel, rfl⟩
theorem d_x_find_55 : xd b_x_find 55 (.iload_n 2) 1 56 := ⟨by decide +kernel, rfl⟩
theorem d_x_find_56 : xd b_x_find 56 (.iload_n 3) 1 57 := ⟨by decide +kernel, rfl⟩
theorem d_x_find_57 : xd b_x_find 57 (.i2b) 1 58 := ⟨by decide +kernel, rfl⟩
theorem d_x_find_58 : xd b_x_find 58 (.bastore) 1 59 := ⟨by decide +kernel, rfl⟩
theorem d_x_find_59 : xd b_x_find 59 (.iinc 2 1) 3 62 := ⟨by decide +kernel, rfl⟩
theorem d_x_find_62 : xj b_x_find 62 (.goto (-46)) 3 65 (-46) 16 := ⟨by decide +kernel, rfl, by decide⟩
theorem d_x_find_65 : xd b_x_find 65 (.return_) 1 66 := ⟨by decide +kernel, rfl⟩
theorem d_x_leadsInto_0 : xd b_x_leadsInto 0 (.aload_n 0) 1 1 := ⟨by decide +kernel, rfl⟩
theorem d_x_leadsInto_1 : xd b_x_leadsInto 1 (.iload_n 1) 1 2 := ⟨by decide +kernel, rfl⟩
theorem d_x_leadsInto_2 : xd b_x_leadsInto 2 (.aload_n 0) 1 3 := ⟨by decide +kernel, rfl⟩
theorem d_x_leadsInto_3 : xd b_x_leadsInto 3 (.getfield 47) 3 6 := ⟨by decide +kernel, rfl⟩
theorem d_x_leadsInto_6 : xd b_x_leadsInto 6 (.iconst 0) 1 7 := ⟨by decide +kernel, rfl⟩
theorem d_x_leadsInto_7 : xd b_x_leadsInto 7 (.invokevirtual 91) 3 10 := ⟨by decide +kernel, rfl⟩
theorem d_x_leadsInto_10 : xj b_x_leadsInto 10 (.ifCond .ne 5) 3 13 (5) 15 := ⟨by decide +kernel, rfl, by decide⟩
theorem d_x_leadsInto_13 : xd b_x_leadsInto 13 (.iconst 0) 1 14 := ⟨by decide +kernel, rfl⟩
theorem d_x_leadsInto_14 : xd b_x_leadsInto 14 (.ireturn) 1 15 := ⟨by decide +kernel, rfl⟩
theorem d_x_leadsInto_15 : xd b_x_leadsInto 15 (.aload_n 0) 1 16 := ⟨by decide +kernel, rfl⟩
theorem d_x_leadsInto_16 : xd b_x_leadsInto 16 (.getfield 47) 3 19 := ⟨by decide +kernel, rfl⟩
theorem d_x_leadsInto_19 : xd b_x_leadsInto 19 (.iconst 0) 1 20 := ⟨by decide +kernel, rfl⟩
theorem d_x_leadsInto_20 : xd b_x_leadsInto 20 (.aload_n 0) 1 21 := ⟨by decide +kernel, rfl⟩
theorem d_x_leadsInto_21 : xd b_x_leadsInto 21 (.getfield 44) 3 24 := ⟨by decide +kernel, rfl⟩
theorem d_x_leadsInto_24 : xd b_x_leadsInto 24 (.iconst 0) 1 25 := ⟨by decide +kernel, rfl⟩
theorem d_x_leadsInto_25 : xd b_x_leadsInto 25 (.iconst 5) 1 26 := ⟨by decide +kernel, rfl⟩
theorem d_x_leadsInto_26 : xd b_x_leadsInto 26 (.invokestatic 71) 3 29 := ⟨by decide +kernel, rfl⟩
theorem d_x_leadsInto_29 : xd b_x_leadsInto 29 (.aload_n 0) 1 30 := ⟨by decide +kernel, rfl⟩
theorem d_x_leadsInto_30 : xd b_x_leadsInto 30 (.iload_n 1) 1 31 := ⟨by decide +kernel, rfl⟩
theorem d_x_leadsInto_31 : xd b_x_leadsInto 31 (.aload_n 0) 1 32 := ⟨by decide +kernel, rfl⟩
theorem d_x_leadsInto_32 : xd b_x_leadsInto 32 (.getfield 44) 3 35 := ⟨by decide +kernel, rfl⟩
theorem d_x_leadsInto_35 : xd b_x_leadsInto 35 (.invokevirtual 95) 3 38 := ⟨by decide +kernel, rfl⟩
theorem d_x_leadsInto_38 : xd b_x_leadsInto 38 (.aload_n 0) 1 39 := ⟨by decide +kernel, rfl⟩
theorem d_x_leadsInto_39 : xd b_x_leadsInto 39 (.aload_n 0) 1 40 := ⟨by decide +kernel, rfl⟩
theorem d_x_leadsInto_40 : xd b_x_leadsInto 40 (.getfield 44) 3 43 := ⟨by decide +kernel, rfl⟩
theorem d_x_leadsInto_43 : xd b_x_leadsInto 43 (.aload_n 0) 1 44 := ⟨by decide +kernel, rfl⟩
theorem d_x_leadsInto_44 : xd b_x_leadsInto 44 (.getfield 27) 3 47 := ⟨by decide +kernel, rfl⟩
theorem d_x_leadsInto_47 : xd b_x_leadsInto 47 (.iload_n 2) 1 48 := ⟨by decide +kernel, rfl⟩
theorem d_x_leadsInto_48 : xd b_x_leadsInto 48 (.iconst 0) 1 49 := ⟨by decide +kernel, rfl⟩
theorem d_x_leadsInto_49 : xd b_x_leadsInto 49 (.invokestatic 108) 3 52 := ⟨by decide +kernel, rfl⟩
theorem d_x_leadsInto_52 : xd b_x_leadsInto 52 (.aload_n 0) 1 53 := ⟨by decide +kernel, rfl⟩
theorem d_x_leadsInto_53 : xd b_x_leadsInto 53 (.getfield 31) 3 56 := ⟨by decide +kernel, rfl⟩
theorem d_x_leadsInto_56 : xd b_x_leadsInto 56 (.iload_n 2) 1 57 := ⟨by decide +kernel, rfl⟩
theorem d_x_leadsInto_57 : xd b_x_leadsInto 57 (.iaload) 1 58 := ⟨by decide +kernel, rfl⟩
theorem d_x_leadsInto_58 : xd b_x_leadsInto 58 (.invokevirtual 102) 3 61 := ⟨by decide +kernel, rfl⟩
theorem d_x_leadsInto_61 : xd b_x_leadsInto 61 (.ireturn) 1 62 := ⟨by decide +kernel, rfl⟩
theorem d_x_steps_0 : xd b_x_steps 0 (.aload_n 0) 1 1 := ⟨by decide +kernel, rfl⟩
theorem d_x_steps_1 : xd b_x_steps 1 (.getfield 38) 3 4 := ⟨by decide +kernel, rfl⟩
theorem d_x_steps_4 : xd b_x_steps 4 (.iconst 1) 1 5 := ⟨by decide +kernel, rfl⟩
theorem d_x_steps_5 : xj b_x_steps 5 (.if_icmp .ne 10) 3 8 (10) 15 := ⟨by decide +kernel, rfl, by decide⟩
theorem d_x_steps_8 : xd b_x_steps 8 (.aload_n 0) 1 9 := ⟨by decide +kernel, rfl⟩
theorem d_x_steps_9 : xd b_x_steps 9 (.getfield 34) 3 12 := ⟨by decide +kernel, rfl⟩
theorem d_x_steps_12 : xj b_x_steps 12 (.goto 4) 3 15 (4) 16 := ⟨by decide +kernel, rfl, by decide⟩
theorem d_x_steps_15 : xd b_x_steps 15 (.iconst (-1)) 1 16 := ⟨by decide +kernel, rfl⟩
theorem d_x_steps_16 : xd b_x_steps 16 (.ireturn) 1 17 := ⟨by decide +kernel, rfl⟩
theorem d_x_witness_0 : xd b_x_witness 0 (.iload_n 1) 1 1 := ⟨by decide +kernel, rfl⟩
theorem d_x_witness_1 : xj b_x_witness 1 (.ifCond .lt 20) 3 4 (20) 21 := ⟨by decide +kernel, rfl, by decide⟩
theorem d_x_witness_4 : xd b_x_witness 4 (.iload_n 1) 1 5 := ⟨by decide +kernel, rfl⟩
theorem d_x_witness_5 : xd b_x_witness 5 (.aload_n 0) 1 6 := ⟨by decide +kernel, rfl⟩
theorem d_x_witness_6 : xd b_x_witness 6 (.invokevirtual 134) 3 9 := ⟨by decide +kernel, rfl⟩
theorem d_x_witness_9 : xj b_x_witness 9 (.if_icmp .ge 12) 3 12 (12) 21 := ⟨by decide +kernel, rfl, by decide⟩
theorem d_x_witness_12 : xd b_x_witness 12 (.aload_n 0) 1 13 := ⟨by decide +kernel, rfl⟩
theorem d_x_witness_13 : xd b_x_witness 13 (.getfield 50) 3 16 := ⟨by decide +kernel, rfl⟩
theorem d_x_witness_16 : xd b_x_witness 16 (.iload_n 1) 1 17 := ⟨by decide +kernel, rfl⟩
theorem d_x_witness_17 : xd b_x_witness 17 (.baload) 1 18 := ⟨by decide +kernel, rfl⟩
theorem d_x_witness_18 : xj b_x_witness 18 (.goto 4) 3 21 (4) 22 := ⟨by decide +kernel, rfl, by decide⟩
theorem d_x_witness_21 : xd b_x_witness 21 (.iconst (-1)) 1 22 := ⟨by decide +kernel, rfl⟩
theorem d_x_witness_22 : xd b_x_witness 22 (.ireturn) 1 23 := ⟨by decide +kernel, rfl⟩
theorem d_x_least_0 : xd b_x_least 0 (.iload_n 1) 1 1 := ⟨by decide +kernel, rfl⟩
theorem d_x_least_1 : xj b_x_least 1 (.ifCond .lt 20) 3 4 (20) 21 := ⟨by decide +kernel, rfl, by decide⟩
theorem d_x_least_4 : xd b_x_least 4 (.iload_n 1) 1 5 := ⟨by decide +kernel, rfl⟩
theorem d_x_least_5 : xd b_x_least 5 (.aload_n 0) 1 6 := ⟨by decide +kernel, rfl⟩
theorem d_x_least_6 : xd b_x_least 6 (.getfield 34) 3 9 := ⟨by decide +kernel, rfl⟩
theorem d_x_least_9 : xj b_x_least 9 (.if_icmp .gt 12) 3 12 (12) 21 := ⟨by decide +kernel, rfl, by decide⟩
theorem d_x_least_12 : xd b_x_least 12 (.aload_n 0) 1 13 := ⟨by decide +kernel, rfl⟩
theorem d_x_least_13 : xd b_x_least 13 (.getfield 31) 3 16 := ⟨by decide +kernel, rfl⟩
theorem d_x_least_16 : xd b_x_least 16 (.iload_n 1) 1 17 := ⟨by decide +kernel, rfl⟩
theorem d_x_least_17 : xd b_x_least 17 (.iaload) 1 18 := ⟨by decide +kernel, rfl⟩
theorem d_x_least_18 : xj b_x_least 18 (.goto 4) 3 21 (4) 22 := ⟨by decide +kernel, rfl, by decide⟩
theorem d_x_least_21 : xd b_x_least 21 (.iconst (-1)) 1 22 := ⟨by decide +kernel, rfl⟩
theorem d_x_least_22 : xd b_x_least 22 (.ireturn) 1 23 := ⟨by decide +kernel, rfl⟩
theorem d_x_isBelow_0 : xd b_x_isBelow 0 (.iconst 1) 1 1 := ⟨by decide +kernel, rfl⟩
theorem d_x_isBelow_1 : xd b_x_isBelow 1 (.istore_n 3) 1 2 := ⟨by decide +kernel, rfl⟩
theorem d_x_isBelow_2 : xd b_x_isBelow 2 (.iconst 1) 1 3 := ⟨by decide +kernel, rfl⟩
theorem d_x_isBelow_3 : xd b_x_isBelow 3 (.istore 4) 2 5 := ⟨by decide +kernel, rfl⟩
theorem d_x_isBelow_5 : xd b_x_isBelow 5 (.iconst 0) 1 6 := ⟨by decide +kernel, rfl⟩
theorem d_x_isBelow_6 : xd b_x_isBelow 6 (.istore 5) 2 8 := ⟨by decide +kernel, rfl⟩
theorem d_x_isBelow_8 : xd b_x_isBelow 8 (.iload 5) 2 10 := ⟨by decide +kernel, rfl⟩
theorem d_x_isBelow_10 : xd b_x_isBelow 10 (.aload_n 0) 1 11 := ⟨by decide +kernel, rfl⟩
theorem d_x_isBelow_11 : xd b_x_isBelow 11 (.getfield 65) 3 14 := ⟨by decide +kernel, rfl⟩
theorem d_x_isBelow_14 : xj b_x_isBelow 14 (.if_icmp .ge 63) 3 17 (63) 77 := ⟨by decide +kernel, rfl, by decide⟩
theorem d_x_isBelow_17 : xd b_x_isBelow 17 (.iload_n 3) 1 18 := ⟨by decide +kernel, rfl⟩
theorem d_x_isBelow_18 : xd b_x_isBelow 18 (.aload_n 0) 1 19 := ⟨by decide +kernel, rfl⟩
theorem d_x_isBelow_19 : xd b_x_isBelow 19 (.getfield 53) 3 22 := ⟨by decide +kernel, rfl⟩
theorem d_x_isBelow_22 : xd b_x_isBelow 22 (.iconst 5) 1 23 := ⟨by decide +kernel, rfl⟩
theorem d_x_isBelow_23 : xd b_x_isBelow 23 (.iload_n 1) 1 24 := ⟨by decide +kernel, rfl⟩
theorem d_x_isBelow_24 : xd b_x_isBelow 24 (.imul) 1 25 := ⟨by decide +kernel, rfl⟩
theorem d_x_isBelow_25 : xd b_x_isBelow 25 (.iload 5) 2 27 := ⟨by decide +kernel, rfl⟩
theorem d_x_isBelow_27 : xd b_x_isBelow 27 (.iadd) 1 28 := ⟨by decide +kernel, rfl⟩
theorem d_x_isBelow_28 : xd b_x_isBelow 28 (.iaload) 1 29 := ⟨by decide +kernel, rfl⟩
theorem d_x_isBelow_29 : xd b_x_isBelow 29 (.aload_n 2) 1 30 := ⟨by decide +kernel, rfl⟩
theorem d_x_isBelow_30 : xd b_x_isBelow 30 (.iload 5) 2 32 := ⟨by decide +kernel, rfl⟩
theorem d_x_isBelow_32 : xd b_x_isBelow 32 (.iaload) 1 33 := ⟨by decide +kernel, rfl⟩
theorem d_x_isBelow_33 : xj b_x_isBelow 33 (.if_icmp .gt 7) 3 36 (7) 40 := ⟨by decide +kernel, rfl, by decide⟩
theorem d_x_isBelow_36 : xd b_x_isBelow 36 (.iconst 1) 1 37 := ⟨by decide +kernel, rfl⟩
theorem d_x_isBelow_37 : xj b_x_isBelow 37 (.goto 4) 3 40 (4) 41 := ⟨by decide +kernel, rfl, by decide⟩
theorem d_x_isBelow_40 : xd b_x_isBelow 40 (.iconst 0) 1 41 := ⟨by decide +kernel, rfl⟩
theorem d_x_isBelow_41 : xd b_x_isBelow 41 (.iand) 1 42 := ⟨by decide +kernel, rfl⟩
theorem d_x_isBelow_42 : xd b_x_isBelow 42 (.istore_n 3) 1 43 := ⟨by decide +kernel, rfl⟩
theorem d_x_isBelow_43 : xd b_x_isBelow 43 (.iload 4) 2 45 := ⟨by decide +kernel, rfl⟩
theorem d_x_isBelow_45 : xd b_x_isBelow 45 (.aload_n 0) 1 46 := ⟨by decide +kernel, rfl⟩
theorem d_x_isBelow_46 : xd b_x_isBelow 46 (.getfield 53) 3 49 := ⟨by decide +kernel, rfl⟩
theorem d_x_isBelow_49 : xd b_x_isBelow 49 (.iconst 5) 1 50 := ⟨by decide +kernel, rfl⟩
theorem d_x_isBelow_50 : xd b_x_isBelow 50 (.iload_n 1) 1 51 := ⟨by decide +kernel, rfl⟩
theorem d_x_isBelow_51 : xd b_x_isBelow 51 (.imul) 1 52 := ⟨by decide +kernel, rfl⟩
theorem d_x_isBelow_52 : xd b_x_isBelow 52 (.iload 5) 2 54 := ⟨by decide +kernel, rfl⟩
theorem d_x_isBelow_54 : xd b_x_isBelow 54 (.iadd) 1 55 := ⟨by decide +kernel, rfl⟩
theorem d_x_isBelow_55 : xd b_x_isBelow 55 (.iaload) 1 56 := ⟨by decide +kernel, rfl⟩
theorem d_x_isBelow_56 : xd b_x_isBelow 56 (.aload_n 2) 1 57 := ⟨by decide +kernel, rfl⟩
theorem d_x_isBelow_57 : xd b_x_isBelow 57 (.iload 5) 2 59 := ⟨by decide +kernel, rfl⟩
theorem d_x_isBelow_59 : xd b_x_isBelow 59 (.iaload) 1 60 := ⟨by decide +kernel, rfl⟩
theorem d_x_isBelow_60 : xj b_x_isBelow 60 (.if_icmp .ne 7) 3 63 (7) 67 := ⟨by decide +kernel, rfl, by decide⟩
theorem d_x_isBelow_63 : xd b_x_isBelow 63 (.iconst 1) 1 64 := ⟨by decide +kernel, rfl⟩
theorem d_x_isBelow_64 : xj b_x_isBelow 64 (.goto 4) 3 67 (4) 68 := ⟨by decide +kernel, rfl, by decide⟩
theorem d_x_isBelow_67 : xd b_x_isBelow 67 (.iconst 0) 1 68 := ⟨by decide +kernel, rfl⟩
theorem d_x_isBelow_68 : xd b_x_isBelow 68 (.iand) 1 69 := ⟨by decide +kernel, rfl⟩
theorem d_x_isBelow_69 : xd b_x_isBelow 69 (.istore 4) 2 71 := ⟨by decide +kernel, rfl⟩
theorem d_x_isBelow_71 : xd b_x_isBelow 71 (.iinc 5 1) 3 74 := ⟨by decide +kernel, rfl⟩
theorem d_x_isBelow_74 : xj b_x_isBelow 74 (.goto (-66)) 3 77 (-66) 8 := ⟨by decide +kernel, rfl, by decide⟩
theorem d_x_isBelow_77 : xd b_x_isBelow 77 (.iload_n 3) 1 78 := ⟨by decide +kernel, rfl⟩
theorem d_x_isBelow_78 : xj b_x_isBelow 78 (.ifCond .eq 12) 3 81 (12) 90 := ⟨by decide +kernel, rfl, by decide⟩
theorem d_x_isBelow_81 : xd b_x_isBelow 81 (.iload 4) 2 83 := ⟨by decide +kernel, rfl⟩
theorem d_x_isBelow_83 : xj b_x_isBelow 83 (.ifCond .ne 7) 3 86 (7) 90 := ⟨by decide +kernel, rfl, by decide⟩
theorem d_x_isBelow_86 : xd b_x_isBelow 86 (.iconst 1) 1 87 := ⟨by decide +kernel, rfl⟩
theorem d_x_isBelow_87 : xj b_x_isBelow 87 (.goto 4) 3 90 (4) 91 := ⟨by decide +kernel, rfl, by decide⟩
theorem d_x_isBelow_90 : xd b_x_isBelow 90 (.iconst 0) 1 91 := ⟨by decide +kernel, rfl⟩
theorem d_x_isBelow_91 : xd b_x_isBelow 91 (.ireturn) 1 92 := ⟨by decide +kernel, rfl⟩
theorem d_x_isAt_0 : xd b_x_isAt 0 (.iconst 1) 1 1 := ⟨by decide +kernel, rfl⟩
theorem d_x_isAt_1 : xd b_x_isAt 1 (.istore_n 3) 1 2 := ⟨by decide +kernel, rfl⟩
theorem d_x_isAt_2 : xd b_x_isAt 2 (.iconst 0) 1 3 := ⟨by decide +kernel, rfl⟩
theorem d_x_isAt_3 : xd b_x_isAt 3 (.istore 4) 2 5 := ⟨by decide +kernel, rfl⟩
theorem d_x_isAt_5 : xd b_x_isAt 5 (.iload 4) 2 7 := ⟨by decide +kernel, rfl⟩
theorem d_x_isAt_7 : xd b_x_isAt 7 (.aload_n 0) 1 8 := ⟨by decide +kernel, rfl⟩
theorem d_x_isAt_8 : xd b_x_isAt 8 (.getfield 65) 3 11 := ⟨by decide +kernel, rfl⟩
theorem d_x_isAt_11 : xj b_x_isAt 11 (.if_icmp .ge 42) 3 14 (42) 53 := ⟨by decide +kernel, rfl, by decide⟩
theorem d_x_isAt_14 : xd b_x_isAt 14 (.iload_n 3) 1 15 := ⟨by decide +kernel, rfl⟩
theorem d_x_isAt_15 : xd b_x_isAt 15 (.aload_n 0) 1 16 := ⟨by decide +kernel, rfl⟩
theorem d_x_isAt_16 : xd b_x_isAt 16 (.getfield 53) 3 19 := ⟨by decide +kernel, rfl⟩
theorem d_x_isAt_19 : xd b_x_isAt 19 (.iconst 5) 1 20 := ⟨by decide +kernel, rfl⟩
theorem d_x_isAt_20 : xd b_x_isAt 20 (.iload_n 1) 1 21 := ⟨by decide +kernel, rfl⟩
theorem d_x_isAt_21 : xd b_x_isAt 21 (.imul) 1 22 := ⟨by decide +kernel, rfl⟩
theorem d_x_isAt_22 : xd b_x_isAt 22 (.iload 4) 2 24 := ⟨by decide +kernel, rfl⟩
theorem d_x_isAt_24 : xd b_x_isAt 24 (.iadd) 1 25 := ⟨by decide +kernel, rfl⟩
theorem d_x_isAt_25 : xd b_x_isAt 25 (.iaload) 1 26 := ⟨by decide +kernel, rfl⟩
theorem d_x_isAt_26 : xd b_x_isAt 26 (.aload_n 0) 1 27 := ⟨by decide +kernel, rfl⟩
theorem d_x_isAt_27 : xd b_x_isAt 27 (.getfield 53) 3 30 := ⟨by decide +kernel, rfl⟩
theorem d_x_isAt_30 : xd b_x_isAt 30 (.iconst 5) 1 31 := ⟨by decide +kernel, rfl⟩
theorem d_x_isAt_31 : xd b_x_isAt 31 (.iload_n 2) 1 32 := ⟨by decide +kernel, rfl⟩
theorem d_x_isAt_32 : xd b_x_isAt 32 (.imul) 1 33 := ⟨by decide +kernel, rfl⟩
theorem d_x_isAt_33 : xd b_x_isAt 33 (.iload 4) 2 35 := ⟨by decide +kernel, rfl⟩
theorem d_x_isAt_35 : xd b_x_isAt 35 (.iadd) 1 36 := ⟨by decide +kernel, rfl⟩
theorem d_x_isAt_36 : xd b_x_isAt 36 (.iaload) 1 37 := ⟨by decide +kernel, rfl⟩
theorem d_x_isAt_37 : xj b_x_isAt 37 (.if_icmp .ne 7) 3 40 (7) 44 := ⟨by decide +kernel, rfl, by decide⟩
theorem d_x_isAt_40 : xd b_x_isAt 40 (.iconst 1) 1 41 := ⟨by decide +kernel, rfl⟩
theorem d_x_isAt_41 : xj b_x_isAt 41 (.goto 4) 3 44 (4) 45 := ⟨by decide +kernel, rfl, by decide⟩
theorem d_x_isAt_44 : xd b_x_isAt 44 (.iconst 0) 1 45 := ⟨by decide +kernel, rfl⟩
theorem d_x_isAt_45 : xd b_x_isAt 45 (.iand) 1 46 := ⟨by decide +kernel, rfl⟩
theorem d_x_isAt_46 : xd b_x_isAt 46 (.istore_n 3) 1 47 := ⟨by decide +kernel, rfl⟩
theorem d_x_isAt_47 : xd b_x_isAt 47 (.iinc 4 1) 3 50 := ⟨by decide +kernel, rfl⟩
theorem d_x_isAt_50 : xj b_x_isAt 50 (.goto (-45)) 3 53 (-45) 5 := ⟨by decide +kernel, rfl, by decide⟩
theorem d_x_isAt_53 : xd b_x_isAt 53 (.iload_n 3) 1 54 := ⟨by decide +kernel, rfl⟩
theorem d_x_isAt_54 : xd b_x_isAt 54 (.ireturn) 1 55 := ⟨by decide +kernel, rfl⟩
theorem d_x_isAgain_0 : xd b_x_isAgain 0 (.aload_n 0) 1 1 := ⟨by decide +kernel, rfl⟩
theorem d_x_isAgain_1 : xd b_x_isAgain 1 (.getfield 56) 3 4 := ⟨by decide +kernel, rfl⟩
theorem d_x_isAgain_4 : xd b_x_isAgain 4 (.iload_n 1) 1 5 := ⟨by decide +kernel, rfl⟩
theorem d_x_isAgain_5 : xd b_x_isAgain 5 (.saload) 1 6 := ⟨by decide +kernel, rfl⟩
theorem d_x_isAgain_6 : xd b_x_isAgain 6 (.istore_n 2) 1 7 := ⟨by decide +kernel, rfl⟩
theorem d_x_isAgain_7 : xd b_x_isAgain 7 (.iload_n 2) 1 8 := ⟨by decide +kernel, rfl⟩
theorem d_x_isAgain_8 : xd b_x_isAgain 8 (.iconst (-1)) 1 9 := ⟨by decide +kernel, rfl⟩
theorem d_x_isAgain_9 : xj b_x_isAgain 9 (.if_icmp .eq 22) 3 12 (22) 31 := ⟨by decide +kernel, rfl, by decide⟩
theorem d_x_isAgain_12 : xd b_x_isAgain 12 (.aload_n 0) 1 13 := ⟨by decide +kernel, rfl⟩
theorem d_x_isAgain_13 : xd b_x_isAgain 13 (.iload_n 2) 1 14 := ⟨by decide +kernel, rfl⟩
theorem d_x_isAgain_14 : xd b_x_isAgain 14 (.iload_n 1) 1 15 := ⟨by decide +kernel, rfl⟩
theorem d_x_isAgain_15 : xd b_x_isAgain 15 (.invokevirtual 138) 3 18 := ⟨by decide +kernel, rfl⟩
theorem d_x_isAgain_18 : xj b_x_isAgain 18 (.ifCond .ne 13) 3 21 (13) 31 := ⟨by decide +kernel, rfl, by decide⟩
theorem d_x_isAgain_21 : xd b_x_isAgain 21 (.aload_n 0) 1 22 := ⟨by decide +kernel, rfl⟩
theorem d_x_isAgain_22 : xd b_x_isAgain 22 (.getfield 56) 3 25 := ⟨by decide +kernel, rfl⟩
theorem d_x_isAgain_25 : xd b_x_isAgain 25 (.iload_n 2) 1 26 := ⟨by decide +kernel, rfl⟩
theorem d_x_isAgain_26 : xd b_x_isAgain 26 (.saload) 1 27 := ⟨by decide +kernel, rfl⟩
theorem d_x_isAgain_27 : xd b_x_isAgain 27 (.istore_n 2) 1 28 := ⟨by decide +kernel, rfl⟩
theorem d_x_isAgain_28 : xj b_x_isAgain 28 (.goto (-21)) 3 31 (-21) 7 := ⟨by decide +kernel, rfl, by decide⟩
theorem d_x_isAgain_31 : xd b_x_isAgain 31 (.iload_n 2) 1 32 := ⟨by decide +kernel, rfl⟩
theorem d_x_isAgain_32 : xd b_x_isAgain 32 (.iconst (-1)) 1 33 := ⟨by decide +kernel, rfl⟩
theorem d_x_isAgain_33 : xj b_x_isAgain 33 (.if_icmp .eq 7) 3 36 (7) 40 := ⟨by decide +kernel, rfl, by decide⟩
theorem d_x_isAgain_36 : xd b_x_isAgain 36 (.iconst 1) 1 37 := ⟨by decide +kernel, rfl⟩
theorem d_x_isAgain_37 : xj b_x_isAgain 37 (.goto 4) 3 40 (4) 41 := ⟨by decide +kernel, rfl, by decide⟩
theorem d_x_isAgain_40 : xd b_x_isAgain 40 (.iconst 0) 1 41 := ⟨by decide +kernel, rfl⟩
theorem d_x_isAgain_41 : xd b_x_isAgain 41 (.ireturn) 1 42 := ⟨by decide +kernel, rfl⟩
theorem d_x_accelerate_0 : xd b_x_accelerate 0 (.iload_n 1) 1 1 := ⟨by decide +kernel, rfl⟩
theorem d_x_accelerate_1 : xd b_x_accelerate 1 (.istore_n 2) 1 2 := ⟨by decide +kernel, rfl⟩
theorem d_x_accelerate_2 : xd b_x_accelerate 2 (.iload_n 2) 1 3 := ⟨by decide +kernel, rfl⟩
theorem d_x_accelerate_3 : xd b_x_accelerate 3 (.iconst (-1)) 1 4 := ⟨by decide +kernel, rfl⟩
theorem d_x_accelerate_4 : xj b_x_accelerate 4 (.if_icmp .eq 38) 3 7 (38) 42 := ⟨by decide +kernel, rfl, by decide⟩
theorem d_x_accelerate_7 : xd b_x_accelerate 7 (.aload_n 0) 1 8 := ⟨by decide +kernel, rfl⟩
theorem d_x_accelerate_8 : xd b_x_accelerate 8 (.iload_n 2) 1 9 := ⟨by decide +kernel, rfl⟩
theorem d_x_accelerate_9 : xd b_x_accelerate 9 (.aload_n 0) 1 10 := ⟨by decide +kernel, rfl⟩
theorem d_x_accelerate_10 : xd b_x_accelerate 10 (.getfield 44) 3 13 := ⟨by decide +kernel, rfl⟩
theorem d_x_accelerate_13 : xd b_x_accelerate 13 (.invokevirtual 141) 3 16 := ⟨by decide +kernel, rfl⟩
theorem d_x_accelerate_16 : xj b_x_accelerate 16 (.ifCond .eq 16) 3 19 (16) 32 := ⟨by decide +kernel, rfl, by decide⟩
theorem d_x_accelerate_19 : xd b_x_accelerate 19 (.aload_n 0) 1 20 := ⟨by decide +kernel, rfl⟩
theorem d_x_accelerate_20 : xd b_x_accelerate 20 (.iload_n 2) 1 21 := ⟨by decide +kernel, rfl⟩
theorem d_x_accelerate_21 : xd b_x_accelerate 21 (.invokevirtual 145) 3 24 := ⟨by decide +kernel, rfl⟩
theorem d_x_accelerate_24 : xj b_x_accelerate 24 (.ifCond .eq 8) 3 27 (8) 32 := ⟨by decide +kernel, rfl, by decide⟩
theorem d_x_accelerate_27 : xd b_x_accelerate 27 (.iload_n 1) 1 28 := ⟨by decide +kernel, rfl⟩
theorem d_x_accelerate_28 : xd b_x_accelerate 28 (.istore_n 2) 1 29 := ⟨by decide +kernel, rfl⟩
theorem d_x_accelerate_29 : xj b_x_accelerate 29 (.goto (-27)) 3 32 (-27) 2 := ⟨by decide +kernel, rfl, by decide⟩
theorem d_x_accelerate_32 : xd b_x_accelerate 32 (.aload_n 0) 1 33 := ⟨by decide +kernel, rfl⟩
theorem d_x_accelerate_33 : xd b_x_accelerate 33 (.getfield 56) 3 36 := ⟨by decide +kernel, rfl⟩
theorem d_x_accelerate_36 : xd b_x_accelerate 36 (.iload_n 2) 1 37 := ⟨by decide +kernel, rfl⟩
theorem d_x_accelerate_37 : xd b_x_accelerate 37 (.saload) 1 38 := ⟨by decide +kernel, rfl⟩
theorem d_x_accelerate_38 : xd b_x_accelerate 38 (.istore_n 2) 1 39 := ⟨by decide +kernel, rfl⟩
theorem d_x_accelerate_39 : xj b_x_accelerate 39 (.goto (-37)) 3 42 (-37) 2 := ⟨by decide +kernel, rfl, by decide⟩
theorem d_x_accelerate_42 : xd b_x_accelerate 42 (.return_) 1 43 := ⟨by decide +kernel, rfl⟩
theorem d_x_grows_0 : xd b_x_grows 0 (.iconst 0) 1 1 := ⟨by decide +kernel, rfl⟩
theorem d_x_grows_1 : xd b_x_grows 1 (.istore_n 2) 1 2 := ⟨by decide +kernel, rfl⟩
theorem d_x_grows_2 : xd b_x_grows 2 (.iconst 0) 1 3 := ⟨by decide +kernel, rfl⟩
theorem d_x_grows_3 : xd b_x_grows 3 (.istore_n 3) 1 4 := ⟨by decide +kernel, rfl⟩
theorem d_x_grows_4 : xd b_x_grows 4 (.iload_n 3) 1 5 := ⟨by decide +kernel, rfl⟩
theorem d_x_grows_5 : xd b_x_grows 5 (.aload_n 0) 1 6 := ⟨by decide +kernel, rfl⟩
theorem d_x_grows_6 : xd b_x_grows 6 (.getfield 65) 3 9 := ⟨by decide +kernel, rfl⟩
theorem d_x_grows_9 : xj b_x_grows 9 (.if_icmp .ge 49) 3 12 (49) 58 := ⟨by decide +kernel, rfl, by decide⟩
theorem d_x_grows_12 : xd b_x_grows 12 (.aload_n 0) 1 13 := ⟨by decide +kernel, rfl⟩
theorem d_x_grows_13 : xd b_x_grows 13 (.getfield 53) 3 16 := ⟨by decide +kernel, rfl⟩
theorem d_x_grows_16 : xd b_x_grows 16 (.iconst 5) 1 17 := ⟨by decide +kernel, rfl⟩
theorem d_x_grows_17 : xd b_x_grows 17 (.iload_n 1) 1 18 := ⟨by decide +kernel, rfl⟩
theorem d_x_grows_18 : xd b_x_grows 18 (.imul) 1 19 := ⟨by decide +kernel, rfl⟩
theorem d_x_grows_19 : xd b_x_grows 19 (.iload_n 3) 1 20 := ⟨by decide +kernel, rfl⟩
theorem d_x_grows_20 : xd b_x_grows 20 (.iadd) 1 21 := ⟨by decide +kernel, rfl⟩
theorem d_x_grows_21 : xd b_x_grows 21 (.iaload) 1 22 := ⟨by decide +kernel, rfl⟩
theorem d_x_grows_22 : xd b_x_grows 22 (.aload_n 0) 1 23 := ⟨by decide +kernel, rfl⟩
theorem d_x_grows_23 : xd b_x_grows 23 (.getfield 44) 3 26 := ⟨by decide +kernel, rfl⟩
theorem d_x_grows_26 : xd b_x_grows 26 (.iload_n 3) 1 27 := ⟨by decide +kernel, rfl⟩
theorem d_x_grows_27 : xd b_x_grows 27 (.iaload) 1 28 := ⟨by decide +kernel, rfl⟩
theorem d_x_grows_28 : xj b_x_grows 28 (.if_icmp .ge 24) 3 31 (24) 52 := ⟨by decide +kernel, rfl, by decide⟩
theorem d_x_grows_31 : xd b_x_grows 31 (.aload_n 0) 1 32 := ⟨by decide +kernel, rfl⟩
theorem d_x_grows_32 : xd b_x_grows 32 (.getfield 44) 3 35 := ⟨by decide +kernel, rfl⟩
theorem d_x_grows_35 : xd b_x_grows 35 (.iload_n 3) 1 36 := ⟨by decide +kernel, rfl⟩
theorem d_x_grows_36 : xd b_x_grows 36 (.iaload) 1 37 := ⟨by decide +kernel, rfl⟩
theorem d_x_grows_37 : xd b_x_grows 37 (.ldc 148) 2 39 := ⟨by decide +kernel, rfl⟩
theorem d_x_grows_39 : xj b_x_grows 39 (.if_icmp .eq 13) 3 42 (13) 52 := ⟨by decide +kernel, rfl, by decide⟩
theorem d_x_grows_42 : xd b_x_grows 42 (.aload_n 0) 1 43 := ⟨by decide +kernel, rfl⟩
theorem d_x_grows_43 : xd b_x_grows 43 (.getfield 44) 3 46 := ⟨by decide +kernel, rfl⟩
theorem d_x_grows_46 : xd b_x_grows 46 (.iload_n 3) 1 47 := ⟨by decide +kernel, rfl⟩
theorem d_x_grows_47 : xd b_x_grows 47 (.ldc 148) 2 49 := ⟨by decide +kernel, rfl⟩
theorem d_x_grows_49 : xd b_x_grows 49 (.iastore) 1 50 := ⟨by decide +kernel, rfl⟩
theorem d_x_grows_50 : xd b_x_grows 50 (.iconst 1) 1 51 := ⟨by decide +kernel, rfl⟩
theorem d_x_grows_51 : xd b_x_grows 51 (.istore_n 2) 1 52 := ⟨by decide +kernel, rfl⟩
theorem d_x_grows_52 : xd b_x_grows 52 (.iinc 3 1) 3 55 := ⟨by decide +kernel, rfl⟩
theorem d_x_grows_55 : xj b_x_grows 55 (.goto (-51)) 3 58 (-51) 4 := ⟨by decide +kernel, rfl, by decide⟩
theorem d_x_grows_58 : xd b_x_grows 58 (.iload_n 2) 1 59 := ⟨by decide +kernel, rfl⟩
theorem d_x_grows_59 : xd b_x_grows 59 (.ireturn) 1 60 := ⟨by decide +kernel, rfl⟩
theorem d_x_hang_0 : xd b_x_hang 0 (.aload_n 0) 1 1 := ⟨by decide +kernel, rfl⟩
theorem d_x_hang_1 : xd b_x_hang 1 (.getfield 149) 3 4 := ⟨by decide +kernel, rfl⟩
theorem d_x_hang_4 : xd b_x_hang 4 (.sipush 1000) 3 7 := ⟨by decide +kernel, rfl⟩
theorem d_x_hang_7 : xj b_x_hang 7 (.if_icmp .ne 5) 3 10 (5) 12 := ⟨by decide +kernel, rfl, by decide⟩
theorem d_x_hang_10 : xd b_x_hang 10 (.iconst 0) 1 11 := ⟨by decide +kernel, rfl⟩
theorem d_x_hang_11 : xd b_x_hang 11 (.ireturn) 1 12 := ⟨by decide +kernel, rfl⟩
theorem d_x_hang_12 : xd b_x_hang 12 (.aload_n 0) 1 13 := ⟨by decide +kernel, rfl⟩
theorem d_x_hang_13 : xd b_x_hang 13 (.getfield 44) 3 16 := ⟨by decide +kernel, rfl⟩
theorem d_x_hang_16 : xd b_x_hang 16 (.iconst 0) 1 17 := ⟨by decide +kernel, rfl⟩
theorem d_x_hang_17 : xd b_x_hang 17 (.aload_n 0) 1 18 := ⟨by decide +kernel, rfl⟩
theorem d_x_hang_18 : xd b_x_hang 18 (.getfield 53) 3 21 := ⟨by decide +kernel, rfl⟩
theorem d_x_hang_21 : xd b_x_hang 21 (.iconst 5) 1 22 := ⟨by decide +kernel, rfl⟩
theorem d_x_hang_22 : xd b_x_hang 22 (.aload_n 0) 1 23 := ⟨by decide +kernel, rfl⟩
theorem d_x_hang_23 : xd b_x_hang 23 (.getfield 149) 3 26 := ⟨by decide +kernel, rfl⟩
theorem d_x_hang_26 : xd b_x_hang 26 (.imul) 1 27 := ⟨by decide +kernel, rfl⟩
theorem d_x_hang_27 : xd b_x_hang 27 (.iconst 5) 1 28 := ⟨by decide +kernel, rfl⟩
theorem d_x_hang_28 : xd b_x_hang 28 (.invokestatic 71) 3 31 := ⟨by decide +kernel, rfl⟩
theorem d_x_hang_31 : xd b_x_hang 31 (.aload_n 0) 1 32 := ⟨by decide +kernel, rfl⟩
theorem d_x_hang_32 : xd b_x_hang 32 (.getfield 56) 3 35 := ⟨by decide +kernel, rfl⟩
theorem d_x_hang_35 : xd b_x_hang 35 (.aload_n 0) 1 36 := ⟨by decide +kernel, rfl⟩
theorem d_x_hang_36 : xd b_x_hang 36 (.dup) 1 37 := ⟨by decide +kernel, rfl⟩
theorem d_x_hang_37 : xd b_x_hang 37 (.getfield 149) 3 40 := ⟨by decide +kernel, rfl⟩
theorem d_x_hang_40 : xd b_x_hang 40 (.dup_x1) 1 41 := ⟨by decide +kernel, rfl⟩
theorem d_x_hang_41 : xd b_x_hang 41 (.iconst 1) 1 42 := ⟨by decide +kernel, rfl⟩
theorem d_x_hang_42 : xd b_x_hang 42 (.iadd) 1 43 := ⟨by decide +kernel, rfl⟩
theorem d_x_hang_43 : xd b_x_hang 43 (.putfield 149) 3 46 := ⟨by decide +kernel, rfl⟩
theorem d_x_hang_46 : xd b_x_hang 46 (.iload_n 1) 1 47 := ⟨by decide +kernel, rfl⟩
theorem d_x_hang_47 : xd b_x_hang 47 (.i2s) 1 48 := ⟨by decide +kernel, rfl⟩
theorem d_x_hang_48 : xd b_x_hang 48 (.sastore) 1 49 := ⟨by decide +kernel, rfl⟩
theorem d_x_hang_49 : xd b_x_hang 49 (.iconst 1) 1 50 := ⟨by decide +kernel, rfl⟩
theorem d_x_hang_50 : xd b_x_hang 50 (.ireturn) 1 51 := ⟨by decide +kernel, rfl⟩
theorem d_x_expand_0 : xd b_x_expand 0 (.iconst 1) 1 1 := ⟨by decide +kernel, rfl⟩
theorem d_x_expand_1 : xd b_x_expand 1 (.istore_n 2) 1 2 := ⟨by decide +kernel, rfl⟩
theorem d_x_expand_2 : xd b_x_expand 2 (.iconst 0) 1 3 := ⟨by decide +kernel, rfl⟩
theorem d_x_expand_3 : xd b_x_expand 3 (.istore_n 3) 1 4 := ⟨by decide +kernel, rfl⟩
theorem d_x_expand_4 : xd b_x_expand 4 (.iload_n 3) 1 5 := ⟨by decide +kernel, rfl⟩
theorem d_x_expand_5 : xd b_x_expand 5 (.aload_n 0) 1 6 := ⟨by decide +kernel, rfl⟩
theorem d_x_expand_6 : xd b_x_expand 6 (.getfield 68) 3 9 := ⟨by decide +kernel, rfl⟩
theorem d_x_expand_9 : xj b_x_expand 9 (.if_icmp .ge 124) 3 12 (124) 133 := ⟨by decide +kernel, rfl, by decide⟩
theorem d_x_expand_12 : xd b_x_expand 12 (.iload_n 2) 1 13 := ⟨by decide +kernel, rfl⟩
theorem d_x_expand_13 : xj b_x_expand 13 (.ifCond .eq 120) 3 16 (120) 133 := ⟨by decide +kernel, rfl, by decide⟩
theorem d_x_expand_16 : xd b_x_expand 16 (.aload_n 0) 1 17 := ⟨by decide +kernel, rfl⟩
theorem d_x_expand_17 : xd b_x_expand 17 (.iload_n 3) 1 18 := ⟨by decide +kernel, rfl⟩
theorem d_x_expand_18 : xd b_x_expand 18 (.aload_n 0) 1 19 := ⟨by decide +kernel, rfl⟩
theorem d_x_expand_19 : xd b_x_expand 19 (.getfield 53) 3 22 := ⟨by decide +kernel, rfl⟩
theorem d_x_expand_22 : xd b_x_expand 22 (.iconst 5) 1 23 := ⟨by decide +kernel, rfl⟩
theorem d_x_expand_23 : xd b_x_expand 23 (.iload_n 1) 1 24 := ⟨by decide +kernel, rfl⟩
theorem d_x_expand_24 : xd b_x_expand 24 (.imul) 1 25 := ⟨by decide +kernel, rfl⟩
theorem d_x_expand_25 : xd b_x_expand 25 (.invokevirtual 91) 3 28 := ⟨by decide +kernel, rfl⟩
theorem d_x_expand_28 : xj b_x_expand 28 (.ifCond .eq 99) 3 31 (99) 127 := ⟨by decide +kernel, rfl, by decide⟩
theorem d_x_expand_31 : xd b_x_expand 31 (.aload_n 0) 1 32 := ⟨by decide +kernel, rfl⟩
theorem d_x_expand_32 : xd b_x_expand 32 (.dup) 1 33 := ⟨by decide +kernel, rfl⟩
theorem d_x_expand_33 : xd b_x_expand 33 (.getfield 152) 3 36 := ⟨by decide +kernel, rfl⟩
theorem d_x_expand_36 : xd b_x_expand 36 (.iconst 1) 1 37 := ⟨by decide +kernel, rfl⟩
theorem d_x_expand_37 : xd b_x_expand 37 (.iload_n 3) 1 38 := ⟨by decide +kernel, rfl⟩
theorem d_x_expand_38 : xd b_x_expand 38 (.ishl) 1 39 := ⟨by decide +kernel, rfl⟩
theorem d_x_expand_39 : xd b_x_expand 39 (.ior) 1 40 := ⟨by decide +kernel, rfl⟩
theorem d_x_expand_40 : xd b_x_expand 40 (.putfield 152) 3 43 := ⟨by decide +kernel, rfl⟩
theorem d_x_expand_43 : xd b_x_expand 43 (.iconst 0) 1 44 := ⟨by decide +kernel, rfl⟩
theorem d_x_expand_44 : xd b_x_expand 44 (.istore 4) 2 46 := ⟨by decide +kernel, rfl⟩
theorem d_x_expand_46 : xd b_x_expand 46 (.iload 4) 2 48 := ⟨by decide +kernel, rfl⟩
theorem d_x_expand_48 : xd b_x_expand 48 (.iconst 5) 1 49 := ⟨by decide +kernel, rfl⟩
theorem d_x_expand_49 : xj b_x_expand 49 (.if_icmp .ge 67) 3 52 (67) 116 := ⟨by decide +kernel, rfl, by decide⟩
theorem d_x_expand_52 : xd b_x_expand 52 (.aload_n 0) 1 53 := ⟨by decide +kernel, rfl⟩
theorem d_x_expand_53 : xd b_x_expand 53 (.getfield 53) 3 56 := ⟨by decide +kernel, rfl⟩
theorem d_x_expand_56 : xd b_x_expand 56 (.iconst 5) 1 57 := ⟨by decide +kernel, rfl⟩
theorem d_x_expand_57 : xd b_x_expand 57 (.iload_n 1) 1 58 := ⟨by decide +kernel, rfl⟩
theorem d_x_expand_58 : xd b_x_expand 58 (.imul) 1 59 := ⟨by decide +kernel, rfl⟩
theorem d_x_expand_59 : xd b_x_expand 59 (.iload 4) 2 61 := ⟨by decide +kernel, rfl⟩
theorem d_x_expand_61 : xd b_x_expand 61 (.iadd) 1 62 := ⟨by decide +kernel, rfl⟩
theorem d_x_expand_62 : xd b_x_expand 62 (.iaload) 1 63 := ⟨by decide +kernel, rfl⟩
theorem d_x_expand_63 : xd b_x_expand 63 (.istore 5) 2 65 := ⟨by decide +kernel, rfl⟩
theorem d_x_expand_65 : xd b_x_expand 65 (.aload_n 0) 1 66 := ⟨by decide +kernel, rfl⟩
theorem d_x_expand_66 : xd b_x_expand 66 (.getfield 44) 3 69 := ⟨by decide +kernel, rfl⟩
theorem d_x_expand_69 : xd b_x_expand 69 (.iload 4) 2 71 := ⟨by decide +kernel, rfl⟩
theorem d_x_expand_71 : xd b_x_expand 71 (.iload 5) 2 73 := ⟨by decide +kernel, rfl⟩
theorem d_x_expand_73 : xd b_x_expand 73 (.ldc 148) 2 75 := ⟨by decide +kernel, rfl⟩
theorem d_x_expand_75 : xj b_x_expand 75 (.if_icmp .ne 8) 3 78 (8) 83 := ⟨by decide +kernel, rfl, by decide⟩
theorem d_x_expand_78 : xd b_x_expand 78 (.ldc 148) 2 80 := ⟨by decide +kernel, rfl⟩
theorem d_x_expand_80 : xj b_x_expand 80 (.goto 29) 3 83 (29) 109 := ⟨by decide +kernel, rfl, by decide⟩
theorem d_x_expand_83 : xd b_x_expand 83 (.iload 5) 2 85 := ⟨by decide +kernel, rfl⟩
theorem d_x_expand_85 : xd b_x_expand 85 (.aload_n 0) 1 86 := ⟨by decide +kernel, rfl⟩
theorem d_x_expand_86 : xd b_x_expand 86 (.getfield 23) 3 89 := ⟨by decide +kernel, rfl⟩
theorem d_x_expand_89 : xd b_x_expand 89 (.iconst 5) 1 90 := ⟨by decide +kernel, rfl⟩
theorem d_x_expand_90 : xd b_x_expand 90 (.iload_n 3) 1 91 := ⟨by decide +kernel, rfl⟩
theorem d_x_expand_91 : xd b_x_expand 91 (.imul) 1 92 := ⟨by decide +kernel, rfl⟩
theorem d_x_expand_92 : xd b_x_expand 92 (.iload 4) 2 94 := ⟨by decide +kernel, rfl⟩
theorem d_x_expand_94 : xd b_x_expand 94 (.iadd) 1 95 := ⟨by decide +kernel, rfl⟩
theorem d_x_expand_95 : xd b_x_expand 95 (.baload) 1 96 := ⟨by decide +kernel, rfl⟩
theorem d_x_expand_96 : xd b_x_expand 96 (.iadd) 1 97 := ⟨by decide +kernel, rfl⟩
theorem d_x_expand_97 : xd b_x_expand 97 (.aload_n 0) 1 98 := ⟨by decide +kernel, rfl⟩
theorem d_x_expand_98 : xd b_x_expand 98 (.getfield 19) 3 101 := ⟨by decide +kernel, rfl⟩
theorem d_x_expand_101 : xd b_x_expand 101 (.iconst 5) 1 102 := ⟨by decide +kernel, rfl⟩
theorem d_x_expand_102 : xd b_x_expand 102 (.iload_n 3) 1 103 := ⟨by decide +kernel, rfl⟩
theorem d_x_expand_103 : xd b_x_expand 103 (.imul) 1 104 := ⟨by decide +kernel, rfl⟩
theorem d_x_expand_104 : xd b_x_expand 104 (.iload 4) 2 106 := ⟨by decide +kernel, rfl⟩
theorem d_x_expand_106 : xd b_x_expand 106 (.iadd) 1 107 := ⟨by decide +kernel, rfl⟩
theorem d_x_expand_107 : xd b_x_expand 107 (.baload) 1 108 := ⟨by decide +kernel, rfl⟩
theorem d_x_expand_108 : xd b_x_expand 108 (.isub) 1 109 := ⟨by decide +kernel, rfl⟩
theorem d_x_expand_109 : xd b_x_expand 109 (.iastore) 1 110 := ⟨by decide +kernel, rfl⟩
theorem d_x_expand_110 : xd b_x_expand 110 (.iinc 4 1) 3 113 := ⟨by decide +kernel, rfl⟩
theorem d_x_expand_113 : xj b_x_expand 113 (.goto (-67)) 3 116 (-67) 46 := ⟨by decide +kernel, rfl, by decide⟩
theorem d_x_expand_116 : xd b_x_expand 116 (.aload_n 0) 1 117 := ⟨by decide +kernel, rfl⟩
theorem d_x_expand_117 : xd b_x_expand 117 (.iload_n 1) 1 118 := ⟨by decide +kernel, rfl⟩
theorem d_x_expand_118 : xd b_x_expand 118 (.invokevirtual 155) 3 121 := ⟨by decide +kernel, rfl⟩
theorem d_x_expand_121 : xd b_x_expand 121 (.aload_n 0) 1 122 := ⟨by decide +kernel, rfl⟩
theorem d_x_expand_122 : xd b_x_expand 122 (.iload_n 1) 1 123 := ⟨by decide +kernel, rfl⟩
theorem d_x_expand_123 : xd b_x_expand 123 (.invokevirtual 158) 3 126 := ⟨by decide +kernel, rfl⟩
theorem d_x_expand_126 : xd b_x_expand 126 (.istore_n 2) 1 127 := ⟨by decide +kernel, rfl⟩
theorem d_x_expand_127 : xd b_x_expand 127 (.iinc 3 1) 3 130 := ⟨by decide +kernel, rfl⟩
theorem d_x_expand_130 : xj b_x_expand 130 (.goto (-126)) 3 133 (-126) 4 := ⟨by decide +kernel, rfl, by decide⟩
theorem d_x_expand_133 : xd b_x_expand 133 (.iload_n 2) 1 134 := ⟨by decide +kernel, rfl⟩
theorem d_x_expand_134 : xd b_x_expand 134 (.ireturn) 1 135 := ⟨by decide +kernel, rfl⟩
theorem d_x_grow_0 : xd b_x_grow 0 (.aload_n 0) 1 1 := ⟨by decide +kernel, rfl⟩
theorem d_x_grow_1 : xd b_x_grow 1 (.iconst 0) 1 2 := ⟨by decide +kernel, rfl⟩
theorem d_x_grow_2 : xd b_x_grow 2 (.putfield 149) 3 5 := ⟨by decide +kernel, rfl⟩
theorem d_x_grow_5 : xd b_x_grow 5 (.aload_n 0) 1 6 := ⟨by decide +kernel, rfl⟩
theorem d_x_grow_6 : xd b_x_grow 6 (.iconst 0) 1 7 := ⟨by decide +kernel, rfl⟩
theorem d_x_grow_7 : xd b_x_grow 7 (.putfield 152) 3 10 := ⟨by decide +kernel, rfl⟩
theorem d_x_grow_10 : xd b_x_grow 10 (.aload_n 0) 1 11 := ⟨by decide +kernel, rfl⟩
theorem d_x_grow_11 : xd b_x_grow 11 (.iconst 0) 1 12 := ⟨by decide +kernel, rfl⟩
theorem d_x_grow_12 : xd b_x_grow 12 (.putfield 161) 3 15 := ⟨by decide +kernel, rfl⟩
theorem d_x_grow_15 : xd b_x_grow 15 (.aload_n 0) 1 16 := ⟨by decide +kernel, rfl⟩
theorem d_x_grow_16 : xd b_x_grow 16 (.aload_n 0) 1 17 := ⟨by decide +kernel, rfl⟩
theorem d_x_grow_17 : xd b_x_grow 17 (.getfield 65) 3 20 := ⟨by decide +kernel, rfl⟩
theorem d_x_grow_20 : xd b_x_grow 20 (.putfield 164) 3 23 := ⟨by decide +kernel, rfl⟩
theorem d_x_grow_23 : xd b_x_grow 23 (.aload_n 0) 1 24 := ⟨by decide +kernel, rfl⟩
theorem d_x_grow_24 : xd b_x_grow 24 (.aload_n 0) 1 25 := ⟨by decide +kernel, rfl⟩
theorem d_x_grow_25 : xd b_x_grow 25 (.getfield 68) 3 28 := ⟨by decide +kernel, rfl⟩
theorem d_x_grow_28 : xd b_x_grow 28 (.putfield 59) 3 31 := ⟨by decide +kernel, rfl⟩
theorem d_x_grow_31 : xd b_x_grow 31 (.aload_n 0) 1 32 := ⟨by decide +kernel, rfl⟩
theorem d_x_grow_32 : xd b_x_grow 32 (.getfield 7) 3 35 := ⟨by decide +kernel, rfl⟩
theorem d_x_grow_35 : xd b_x_grow 35 (.iconst 0) 1 36 := ⟨by decide +kernel, rfl⟩
theorem d_x_grow_36 : xd b_x_grow 36 (.aload_n 0) 1 37 := ⟨by decide +kernel, rfl⟩
theorem d_x_grow_37 : xd b_x_grow 37 (.getfield 44) 3 40 := ⟨by decide +kernel, rfl⟩
theorem d_x_grow_40 : xd b_x_grow 40 (.iconst 0) 1 41 := ⟨by decide +kernel, rfl⟩
theorem d_x_grow_41 : xd b_x_grow 41 (.iconst 5) 1 42 := ⟨by decide +kernel, rfl⟩
theorem d_x_grow_42 : xd b_x_grow 42 (.invokestatic 71) 3 45 := ⟨by decide +kernel, rfl⟩
theorem d_x_grow_45 : xd b_x_grow 45 (.aload_n 0) 1 46 := ⟨by decide +kernel, rfl⟩
theorem d_x_grow_46 : xd b_x_grow 46 (.iconst (-1)) 1 47 := ⟨by decide +kernel, rfl⟩
theorem d_x_grow_47 : xd b_x_grow 47 (.invokevirtual 158) 3 50 := ⟨by decide +kernel, rfl⟩
theorem d_x_grow_50 : xd b_x_grow 50 (.istore_n 1) 1 51 := ⟨by decide +kernel, rfl⟩
theorem d_x_grow_51 : xd b_x_grow 51 (.iconst 0) 1 52 := ⟨by decide +kernel, rfl⟩
theorem d_x_grow_52 : xd b_x_grow 52 (.istore_n 2) 1 53 := ⟨by decide +kernel, rfl⟩
theorem d_x_grow_53 : xd b_x_grow 53 (.iload_n 2) 1 54 := ⟨by decide +kernel, rfl⟩
theorem d_x_grow_54 : xd b_x_grow 54 (.aload_n 0) 1 55 := ⟨by decide +kernel, rfl⟩
theorem d_x_grow_55 : xd b_x_grow 55 (.getfield 149) 3 58 := ⟨by decide +kernel, rfl⟩
theorem d_x_grow_58 : xj b_x_grow 58 (.if_icmp .ge 35) 3 61 (35) 93 := ⟨by decide +kernel, rfl, by decide⟩
theorem d_x_grow_61 : xd b_x_grow 61 (.iload_n 1) 1 62 := ⟨by decide +kernel, rfl⟩
theorem d_x_grow_62 : xj b_x_grow 62 (.ifCond .eq 31) 3 65 (31) 93 := ⟨by decide +kernel, rfl, by decide⟩
theorem d_x_grow_65 : xd b_x_grow 65 (.aload_n 0) 1 66 := ⟨by decide +kernel, rfl⟩
theorem d_x_grow_66 : xd b_x_grow 66 (.iload_n 2) 1 67 := ⟨by decide +kernel, rfl⟩
theorem d_x_grow_67 : xd b_x_grow 67 (.invokevirtual 167) 3 70 := ⟨by decide +kernel, rfl⟩
theorem d_x_grow_70 : xj b_x_grow 70 (.ifCond .ne 11) 3 73 (11) 81 := ⟨by decide +kernel, rfl, by decide⟩
theorem d_x_grow_73 : xd b_x_grow 73 (.aload_n 0) 1 74 := ⟨by decide +kernel, rfl⟩
theorem d_x_grow_74 : xd b_x_grow 74 (.iload_n 2) 1 75 := ⟨by decide +kernel, rfl⟩
theorem d_x_grow_75 : xd b_x_grow 75 (.invokevirtual 170) 3 78 := ⟨by decide +kernel, rfl⟩
theorem d_x_grow_78 : xj b_x_grow 78 (.ifCond .eq 7) 3 81 (7) 85 := ⟨by decide +kernel, rfl, by decide⟩
theorem d_x_grow_81 : xd b_x_grow 81 (.iconst 1) 1 82 := ⟨by decide +kernel, rfl⟩
theorem d_x_grow_82 : xj b_x_grow 82 (.goto 4) 3 85 (4) 86 := ⟨by decide +kernel, rfl, by decide⟩
theorem d_x_grow_85 : xd b_x_grow 85 (.iconst 0) 1 86 := ⟨by decide +kernel, rfl⟩
theorem d_x_grow_86 : xd b_x_grow 86 (.istore_n 1) 1 87 := ⟨by decide +kernel, rfl⟩
theorem d_x_grow_87 : xd b_x_grow 87 (.iinc 2 1) 3 90 := ⟨by decide +kernel, rfl⟩
theorem d_x_grow_90 : xj b_x_grow 90 (.goto (-37)) 3 93 (-37) 53 := ⟨by decide +kernel, rfl, by decide⟩
theorem d_x_grow_93 : xd b_x_grow 93 (.iload_n 1) 1 94 := ⟨by decide +kernel, rfl⟩
theorem d_x_grow_94 : xj b_x_grow 94 (.ifCond .ne 10) 3 97 (10) 104 := ⟨by decide +kernel, rfl, by decide⟩
theorem d_x_grow_97 : xd b_x_grow 97 (.aload_n 0) 1 98 := ⟨by decide +kernel, rfl⟩
theorem d_x_grow_98 : xd b_x_grow 98 (.iconst (-1)) 1 99 := ⟨by decide +kernel, rfl⟩
theorem d_x_grow_99 : xd b_x_grow 99 (.putfield 59) 3 102 := ⟨by decide +kernel, rfl⟩
theorem d_x_grow_102 : xd b_x_grow 102 (.iconst (-1)) 1 103 := ⟨by decide +kernel, rfl⟩
theorem d_x_grow_103 : xd b_x_grow 103 (.ireturn) 1 104 := ⟨by decide +kernel, rfl⟩
theorem d_x_grow_104 : xd b_x_grow 104 (.aload_n 0) 1 105 := ⟨by decide +kernel, rfl⟩
theorem d_x_grow_105 : xd b_x_grow 105 (.invokevirtual 173) 3 108 := ⟨by decide +kernel, rfl⟩
theorem d_x_grow_108 : xd b_x_grow 108 (.aload_n 0) 1 109 := ⟨by decide +kernel, rfl⟩
theorem d_x_grow_109 : xd b_x_grow 109 (.getfield 149) 3 112 := ⟨by decide +kernel, rfl⟩
theorem d_x_grow_112 : xd b_x_grow 112 (.ireturn) 1 113 := ⟨by decide +kernel, rfl⟩
theorem d_x_findTops_0 : xd b_x_findTops 0 (.iconst 0) 1 1 := ⟨by decide +kernel, rfl⟩
theorem d_x_findTops_1 : xd b_x_findTops 1 (.istore_n 1) 1 2 := ⟨by decide +kernel, rfl⟩
theorem d_x_findTops_2 : xd b_x_findTops 2 (.iload_n 1) 1 3 := ⟨by decide +kernel, rfl⟩
theorem d_x_findTops_3 : xd b_x_findTops 3 (.aload_n 0) 1 4 := ⟨by decide +kernel, rfl⟩
theorem d_x_findTops_4 : xd b_x_findTops 4 (.getfield 149) 3 7 := ⟨by decide +kernel, rfl⟩
theorem d_x_findTops_7 : xj b_x_findTops 7 (.if_icmp .ge 143) 3 10 (143) 150 := ⟨by decide +kernel, rfl, by decide⟩
theorem d_x_findTops_10 : xd b_x_findTops 10 (.iconst 1) 1 11 := ⟨by decide +kernel, rfl⟩
theorem d_x_findTops_11 : xd b_x_findTops 11 (.istore_n 2) 1 12 := ⟨by decide +kernel, rfl⟩
theorem d_x_findTops_12 : xd b_x_findTops 12 (.iconst 0) 1 13 := ⟨by decide +kernel, rfl⟩
theorem d_x_findTops_13 : xd b_x_findTops 13 (.istore_n 3) 1 14 := ⟨by decide +kernel, rfl⟩
theorem d_x_findTops_14 : xd b_x_findTops 14 (.iload_n 3) 1 15 := ⟨by decide +kernel, rfl⟩
theorem d_x_findTops_15 : xd b_x_findTops 15 (.aload_n 0) 1 16 := ⟨by decide +kernel, rfl⟩
theorem d_x_findTops_16 : xd b_x_findTops 16 (.getfield 149) 3 19 := ⟨by decide +kernel, rfl⟩
theorem d_x_findTops_19 : xj b_x_findTops 19 (.if_icmp .ge 61) 3 22 (61) 80 := ⟨by decide +kernel, rfl, by decide⟩
theorem d_x_findTops_22 : xd b_x_findTops 22 (.iload_n 2) 1 23 := ⟨by decide +kernel, rfl⟩
theorem d_x_findTops_23 : xj b_x_findTops 23 (.ifCond .eq 57) 3 26 (57) 80 := ⟨by decide +kernel, rfl, by decide⟩
theorem d_x_findTops_26 : xd b_x_findTops 26 (.aload_n 0) 1 27 := ⟨by decide +kernel, rfl⟩
theorem d_x_findTops_27 : xd b_x_findTops 27 (.getfield 53) 3 30 := ⟨by decide +kernel, rfl⟩
theorem d_x_findTops_30 : xd b_x_findTops 30 (.iconst 5) 1 31 := ⟨by decide +kernel, rfl⟩
theorem d_x_findTops_31 : xd b_x_findTops 31 (.iload_n 3) 1 32 := ⟨by decide +kernel, rfl⟩
theorem d_x_findTops_32 : xd b_x_findTops 32 (.imul) 1 33 := ⟨by decide +kernel, rfl⟩
theorem d_x_findTops_33 : xd b_x_findTops 33 (.aload_n 0) 1 34 := ⟨by decide +kernel, rfl⟩
theorem d_x_findTops_34 : xd b_x_findTops 34 (.getfield 44) 3 37 := ⟨by decide +kernel, rfl⟩
theorem d_x_findTops_37 : xd b_x_findTops 37 (.iconst 0) 1 38 := ⟨by decide +kernel, rfl⟩
theorem d_x_findTops_38 : xd b_x_findTops 38 (.iconst 5) 1 39 := ⟨by decide +kernel, rfl⟩
theorem d_x_findTops_39 : xd b_x_findTops 39 (.invokestatic 71) 3 42 := ⟨by decide +kernel, rfl⟩
theorem d_x_findTops_42 : xd b_x_findTops 42 (.aload_n 0) 1 43 := ⟨by decide +kernel, rfl⟩
theorem d_x_findTops_43 : xd b_x_findTops 43 (.iload_n 1) 1 44 := ⟨by decide +kernel, rfl⟩
theorem d_x_findTops_44 : xd b_x_findTops 44 (.aload_n 0) 1 45 := ⟨by decide +kernel, rfl⟩
theorem d_x_findTops_45 : xd b_x_findTops 45 (.getfield 44) 3 48 := ⟨by decide +kernel, rfl⟩
theorem d_x_findTops_48 : xd b_x_findTops 48 (.invokevirtual 141) 3 51 := ⟨by decide +kernel, rfl⟩
theorem d_x_findTops_51 : xj b_x_findTops 51 (.ifCond .ne 21) 3 54 (21) 72 := ⟨by decide +kernel, rfl, by decide⟩
theorem d_x_findTops_54 : xd b_x_findTops 54 (.iload_n 3) 1 55 := ⟨by decide +kernel, rfl⟩
theorem d_x_findTops_55 : xd b_x_findTops 55 (.iload_n 1) 1 56 := ⟨by decide +kernel, rfl⟩
theorem d_x_findTops_56 : xj b_x_findTops 56 (.if_icmp .ge 12) 3 59 (12) 68 := ⟨by decide +kernel, rfl, by decide⟩
theorem d_x_findTops_59 : xd b_x_findTops 59 (.aload_n 0) 1 60 := ⟨by decide +kernel, rfl⟩
theorem d_x_findTops_60 : xd b_x_findTops 60 (.iload_n 3) 1 61 := ⟨by decide +kernel, rfl⟩
theorem d_x_findTops_61 : xd b_x_findTops 61 (.iload_n 1) 1 62 := ⟨by decide +kernel, rfl⟩
theorem d_x_findTops_62 : xd b_x_findTops 62 (.invokevirtual 138) 3 65 := ⟨by decide +kernel, rfl⟩
theorem d_x_findTops_65 : xj b_x_findTops 65 (.ifCond .ne 7) 3 68 (7) 72 := ⟨by decide +kernel, rfl, by decide⟩
theorem d_x_findTops_68 : xd b_x_findTops 68 (.iconst 1) 1 69 := ⟨by decide +kernel, rfl⟩
theorem d_x_findTops_69 : xj b_x_findTops 69 (.goto 4) 3 72 (4) 73 := ⟨by decide +kernel, rfl, by decide⟩
theorem d_x_findTops_72 : xd b_x_findTops 72 (.iconst 0) 1 73 := ⟨by decide +kernel, rfl⟩
theorem d_x_findTops_73 : xd b_x_findTops 73 (.istore_n 2) 1 74 := ⟨by decide +kernel, rfl⟩
theorem d_x_findTops_74 : xd b_x_findTops 74 (.iinc 3 1) 3 77 := ⟨by decide +kernel, rfl⟩
theorem d_x_findTops_77 : xj b_x_findTops 77 (.goto (-63)) 3 80 (-63) 14 := ⟨by decide +kernel, rfl, by decide⟩
theorem d_x_findTops_80 : xd b_x_findTops 80 (.iload_n 2) 1 81 := ⟨by decide +kernel, rfl⟩
theorem d_x_findTops_81 : xj b_x_findTops 81 (.ifCond .eq 63) 3 84 (63) 144 := ⟨by decide +kernel, rfl, by decide⟩
theorem d_x_findTops_84 : xd b_x_findTops 84 (.aload_n 0) 1 85 := ⟨by decide +kernel, rfl⟩
theorem d_x_findTops_85 : xd b_x_findTops 85 (.dup) 1 86 := ⟨by decide +kernel, rfl⟩
theorem d_x_findTops_86 : xd b_x_findTops 86 (.getfield 161) 3 89 := ⟨by decide +kernel, rfl⟩
theorem d_x_findTops_89 : xd b_x_findTops 89 (.dup_x1) 1 90 := ⟨by decide +kernel, rfl⟩
theorem d_x_findTops_90 : xd b_x_findTops 90 (.iconst 1) 1 91 := ⟨by decide +kernel, rfl⟩
theorem d_x_findTops_91 : xd b_x_findTops 91 (.iadd) 1 92 := ⟨by decide +kernel, rfl⟩
theorem d_x_findTops_92 : xd b_x_findTops 92 (.putfield 161) 3 95 := ⟨by decide +kernel, rfl⟩
theorem d_x_findTops_95 : xd b_x_findTops 95 (.istore_n 3) 1 96 := ⟨by decide +kernel, rfl⟩
theorem d_x_findTops_96 : xd b_x_findTops 96 (.iload_n 3) 1 97 := ⟨by decide +kernel, rfl⟩
theorem d_x_findTops_97 : xj b_x_findTops 97 (.ifCond .le 39) 3 100 (39) 136 := ⟨by decide +kernel, rfl, by decide⟩
theorem d_x_findTops_100 : xd b_x_findTops 100 (.aload_n 0) 1 101 := ⟨by decide +kernel, rfl⟩
theorem d_x_findTops_101 : xd b_x_findTops 101 (.iload_n 1) 1 102 := ⟨by decide +kernel, rfl⟩
theorem d_x_findTops_102 : xd b_x_findTops 102 (.aload_n 0) 1 103 := ⟨by decide +kernel, rfl⟩
theorem d_x_findTops_103 : xd b_x_findTops 103 (.getfield 62) 3 106 := ⟨by decide +kernel, rfl⟩
theorem d_x_findTops_106 : xd b_x_findTops 106 (.iload_n 3) 1 107 := ⟨by decide +kernel, rfl⟩
theorem d_x_findTops_107 : xd b_x_findTops 107 (.iconst 1) 1 108 := ⟨by decide +kernel, rfl⟩
theorem d_x_findTops_108 : xd b_x_findTops 108 (.isub) 1 109 := ⟨by decide +kernel, rfl⟩
theorem d_x_findTops_109 : xd b_x_findTops 109 (.saload) 1 110 := ⟨by decide +kernel, rfl⟩
theorem d_x_findTops_110 : xd b_x_findTops 110 (.invokevirtual 176) 3 113 := ⟨by decide +kernel, rfl⟩
theorem d_x_findTops_113 : xj b_x_findTops 113 (.ifCond .eq 23) 3 116 (23) 136 := ⟨by decide +kernel, rfl, by decide⟩
theorem d_x_findTops_116 : xd b_x_findTops 116 (.aload_n 0) 1 117 := ⟨by decide +kernel, rfl⟩
theorem d_x_findTops_117 : xd b_x_findTops 117 (.getfield 62) 3 120 := ⟨by decide +kernel, rfl⟩
theorem d_x_findTops_120 : xd b_x_findTops 120 (.iload_n 3) 1 121 := ⟨by decide +kernel, rfl⟩
theorem d_x_findTops_121 : xd b_x_findTops 121 (.aload_n 0) 1 122 := ⟨by decide +kernel, rfl⟩
theorem d_x_findTops_122 : xd b_x_findTops 122 (.getfield 62) 3 125 := ⟨by decide +kernel, rfl⟩
theorem d_x_findTops_125 : xd b_x_findTops 125 (.iload_n 3) 1 126 := ⟨by decide +kernel, rfl⟩
theorem d_x_findTops_126 : xd b_x_findTops 126 (.iconst 1) 1 127 := ⟨by decide +kernel, rfl⟩
theorem d_x_findTops_127 : xd b_x_findTops 127 (.isub) 1 128 := ⟨by decide +kernel, rfl⟩
theorem d_x_findTops_128 : xd b_x_findTops 128 (.saload) 1 129 := ⟨by decide +kernel, rfl⟩
theorem d_x_findTops_129 : xd b_x_findTops 129 (.sastore) 1 130 := ⟨by decide +kernel, rfl⟩
theorem d_x_findTops_130 : xd b_x_findTops 130 (.iinc 3 (-1)) 3 133 := ⟨by decide +kernel, rfl⟩
theorem d_x_findTops_133 : xj b_x_findTops 133 (.goto (-37)) 3 136 (-37) 96 := ⟨by decide +kernel, rfl, by decide⟩
theorem d_x_findTops_136 : xd b_x_findTops 136 (.aload_n 0) 1 137 := ⟨by decide +kernel, rfl⟩
theorem d_x_findTops_137 : xd b_x_findTops 137 (.getfield 62) 3 140 := ⟨by decide +kernel, rfl⟩
theorem d_x_findTops_140 : xd b_x_findTops 140 (.iload_n 3) 1 141 := ⟨by decide +kernel, rfl⟩
theorem d_x_findTops_141 : xd b_x_findTops 141 (.iload_n 1) 1 142 := ⟨by decide +kernel, rfl⟩
theorem d_x_findTops_142 : xd b_x_findTops 142 (.i2s) 1 143 := ⟨by decide +kernel, rfl⟩
theorem d_x_findTops_143 : xd b_x_findTops 143 (.sastore) 1 144 := ⟨by decide +kernel, rfl⟩
theorem d_x_findTops_144 : xd b_x_findTops 144 (.iinc 1 1) 3 147 := ⟨by decide +kernel, rfl⟩
theorem d_x_findTops_147 : xj b_x_findTops 147 (.goto (-145)) 3 150 (-145) 2 := ⟨by decide +kernel, rfl, by decide⟩
theorem d_x_findTops_150 : xd b_x_findTops 150 (.return_) 1 151 := ⟨by decide +kernel, rfl⟩
theorem d_x_isLess_0 : xd b_x_isLess 0 (.iconst 0) 1 1 := ⟨by decide +kernel, rfl⟩
theorem d_x_isLess_1 : xd b_x_isLess 1 (.istore_n 3) 1 2 := ⟨by decide +kernel, rfl⟩
theorem d_x_isLess_2 : xd b_x_isLess 2 (.iload_n 3) 1 3 := ⟨by decide +kernel, rfl⟩
theorem d_x_isLess_3 : xd b_x_isLess 3 (.iconst 5) 1 4 := ⟨by decide +kernel, rfl⟩
theorem d_x_isLess_4 : xj b_x_isLess 4 (.if_icmp .ge 32) 3 7 (32) 36 := ⟨by decide +kernel, rfl, by decide⟩
theorem d_x_isLess_7 : xd b_x_isLess 7 (.aload_n 0) 1 8 := ⟨by decide +kernel, rfl⟩
theorem d_x_isLess_8 : xd b_x_isLess 8 (.getfield 53) 3 11 := ⟨by decide +kernel, rfl⟩
theorem d_x_isLess_11 : xd b_x_isLess 11 (.iconst 5) 1 12 := ⟨by decide +kernel, rfl⟩
theorem d_x_isLess_12 : xd b_x_isLess 12 (.iload_n 1) 1 13 := ⟨by decide +kernel, rfl⟩
theorem d_x_isLess_13 : xd b_x_isLess 13 (.imul) 1 14 := ⟨by decide +kernel, rfl⟩
theorem d_x_isLess_14 : xd b_x_isLess 14 (.iload_n 3) 1 15 := ⟨by decide +kernel, rfl⟩
theorem d_x_isLess_15 : xd b_x_isLess 15 (.iadd) 1 16 := ⟨by decide +kernel, rfl⟩
theorem d_x_isLess_16 : xd b_x_isLess 16 (.iaload) 1 17 := ⟨by decide +kernel, rfl⟩
theorem d_x_isLess_17 : xd b_x_isLess 17 (.aload_n 0) 1 18 := ⟨by decide +kernel, rfl⟩
theorem d_x_isLess_18 : xd b_x_isLess 18 (.getfield 53) 3 21 := ⟨by decide +kernel, rfl⟩
theorem d_x_isLess_21 : xd b_x_isLess 21 (.iconst 5) 1 22 := ⟨by decide +kernel, rfl⟩
theorem d_x_isLess_22 : xd b_x_isLess 22 (.iload_n 2) 1 23 := ⟨by decide +kernel, rfl⟩
theorem d_x_isLess_23 : xd b_x_isLess 23 (.imul) 1 24 := ⟨by decide +kernel, rfl⟩
theorem d_x_isLess_24 : xd b_x_isLess 24 (.iload_n 3) 1 25 := ⟨by decide +kernel, rfl⟩
theorem d_x_isLess_25 : xd b_x_isLess 25 (.iadd) 1 26 := ⟨by decide +kernel, rfl⟩
theorem d_x_isLess_26 : xd b_x_isLess 26 (.iaload) 1 27 := ⟨by decide +kernel, rfl⟩
theorem d_x_isLess_27 : xj b_x_isLess 27 (.if_icmp .ne 9) 3 30 (9) 36 := ⟨by decide +kernel, rfl, by decide⟩
theorem d_x_isLess_30 : xd b_x_isLess 30 (.iinc 3 1) 3 33 := ⟨by decide +kernel, rfl⟩
theorem d_x_isLess_33 : xj b_x_isLess 33 (.goto (-31)) 3 36 (-31) 2 := ⟨by decide +kernel, rfl, by decide⟩
theorem d_x_isLess_36 : xd b_x_isLess 36 (.iload_n 3) 1 37 := ⟨by decide +kernel, rfl⟩
theorem d_x_isLess_37 : xd b_x_isLess 37 (.iconst 5) 1 38 := ⟨by decide +kernel, rfl⟩
theorem d_x_isLess_38 : xj b_x_isLess 38 (.if_icmp .ge 30) 3 41 (30) 68 := ⟨by decide +kernel, rfl, by decide⟩
theorem d_x_isLess_41 : xd b_x_isLess 41 (.aload_n 0) 1 42 := ⟨by decide +kernel, rfl⟩
theorem d_x_isLess_42 : xd b_x_isLess 42 (.getfield 53) 3 45 := ⟨by decide +kernel, rfl⟩
theorem d_x_isLess_45 : xd b_x_isLess 45 (.iconst 5) 1 46 := ⟨by decide +kernel, rfl⟩
theorem d_x_isLess_46 : xd b_x_isLess 46 (.iload_n 1) 1 47 := ⟨by decide +kernel, rfl⟩
theorem d_x_isLess_47 : xd b_x_isLess 47 (.imul) 1 48 := ⟨by decide +kernel, rfl⟩
theorem d_x_isLess_48 : xd b_x_isLess 48 (.iload_n 3) 1 49 := ⟨by decide +kernel, rfl⟩
theorem d_x_isLess_49 : xd b_x_isLess 49 (.iadd) 1 50 := ⟨by decide +kernel, rfl⟩
theorem d_x_isLess_50 : xd b_x_isLess 50 (.iaload) 1 51 := ⟨by decide +kernel, rfl⟩
theorem d_x_isLess_51 : xd b_x_isLess 51 (.aload_n 0) 1 52 := ⟨by decide +kernel, rfl⟩
theorem d_x_isLess_52 : xd b_x_isLess 52 (.getfield 53) 3 55 := ⟨by decide +kernel, rfl⟩
theorem d_x_isLess_55 : xd b_x_isLess 55 (.iconst 5) 1 56 := ⟨by decide +kernel, rfl⟩
theorem d_x_isLess_56 : xd b_x_isLess 56 (.iload_n 2) 1 57 := ⟨by decide +kernel, rfl⟩
theorem d_x_isLess_57 : xd b_x_isLess 57 (.imul) 1 58 := ⟨by decide +kernel, rfl⟩
theorem d_x_isLess_58 : xd b_x_isLess 58 (.iload_n 3) 1 59 := ⟨by decide +kernel, rfl⟩
theorem d_x_isLess_59 : xd b_x_isLess 59 (.iadd) 1 60 := ⟨by decide +kernel, rfl⟩
theorem d_x_isLess_60 : xd b_x_isLess 60 (.iaload) 1 61 := ⟨by decide +kernel, rfl⟩
theorem d_x_isLess_61 : xj b_x_isLess 61 (.if_icmp .ge 7) 3 64 (7) 68 := ⟨by decide +kernel, rfl, by decide⟩
theorem d_x_isLess_64 : xd b_x_isLess 64 (.iconst 1) 1 65 := ⟨by decide +kernel, rfl⟩
theorem d_x_isLess_65 : xj b_x_isLess 65 (.goto 4) 3 68 (4) 69 := ⟨by decide +kernel, rfl, by decide⟩
theorem d_x_isLess_68 : xd b_x_isLess 68 (.iconst 0) 1 69 := ⟨by decide +kernel, rfl⟩
theorem d_x_isLess_69 : xd b_x_isLess 69 (.ireturn) 1 70 := ⟨by decide +kernel, rfl⟩
theorem d_x_isTree_0 : xd b_x_isTree 0 (.aload_n 0) 1 1 := ⟨by decide +kernel, rfl⟩
theorem d_x_isTree_1 : xd b_x_isTree 1 (.getfield 59) 3 4 := ⟨by decide +kernel, rfl⟩
theorem d_x_isTree_4 : xd b_x_isTree 4 (.iconst (-1)) 1 5 := ⟨by decide +kernel, rfl⟩
theorem d_x_isTree_5 : xj b_x_isTree 5 (.if_icmp .eq 7) 3 8 (7) 12 := ⟨by decide +kernel, rfl, by decide⟩
theorem d_x_isTree_8 : xd b_x_isTree 8 (.iconst 1) 1 9 := ⟨by decide +kernel, rfl⟩
theorem d_x_isTree_9 : xj b_x_isTree 9 (.goto 4) 3 12 (4) 13 := ⟨by decide +kernel, rfl, by decide⟩
theorem d_x_isTree_12 : xd b_x_isTree 12 (.iconst 0) 1 13 := ⟨by decide +kernel, rfl⟩
theorem d_x_isTree_13 : xd b_x_isTree 13 (.ireturn) 1 14 := ⟨by decide +kernel, rfl⟩
theorem d_x_told_0 : xd b_x_told 0 (.iload_n 0) 1 1 := ⟨by decide +kernel, rfl⟩
theorem d_x_told_1 : xd b_x_told 1 (.ldc 148) 2 3 := ⟨by decide +kernel, rfl⟩
theorem d_x_told_3 : xj b_x_told 3 (.if_icmp .ne 8) 3 6 (8) 11 := ⟨by decide +kernel, rfl, by decide⟩
theorem d_x_told_6 : xd b_x_told 6 (.bipush (-2)) 2 8 := ⟨by decide +kernel, rfl⟩
theorem d_x_told_8 : xj b_x_told 8 (.goto 4) 3 11 (4) 12 := ⟨by decide +kernel, rfl, by decide⟩
theorem d_x_told_11 : xd b_x_told 11 (.iload_n 0) 1 12 := ⟨by decide +kernel, rfl⟩
theorem d_x_told_12 : xd b_x_told 12 (.ireturn) 1 13 := ⟨by decide +kernel, rfl⟩
theorem d_x_most_0 : xd b_x_most 0 (.aload_n 0) 1 1 := ⟨by decide +kernel, rfl⟩
theorem d_x_most_1 : xd b_x_most 1 (.invokevirtual 179) 3 4 := ⟨by decide +kernel, rfl⟩
theorem d_x_most_4 : xj b_x_most 4 (.ifCond .eq 15) 3 7 (15) 19 := ⟨by decide +kernel, rfl, by decide⟩
theorem d_x_most_7 : xd b_x_most 7 (.iload_n 1) 1 8 := ⟨by decide +kernel, rfl⟩
theorem d_x_most_8 : xj b_x_most 8 (.ifCond .lt 11) 3 11 (11) 19 := ⟨by decide +kernel, rfl, by decide⟩
theorem d_x_most_11 : xd b_x_most 11 (.iload_n 1) 1 12 := ⟨by decide +kernel, rfl⟩
theorem d_x_most_12 : xd b_x_most 12 (.aload_n 0) 1 13 := ⟨by decide +kernel, rfl⟩
theorem d_x_most_13 : xd b_x_most 13 (.getfield 164) 3 16 := ⟨by decide +kernel, rfl⟩
theorem d_x_most_16 : xj b_x_most 16 (.if_icmp .lt 5) 3 19 (5) 21 := ⟨by decide +kernel, rfl, by decide⟩
theorem d_x_most_19 : xd b_x_most 19 (.iconst (-1)) 1 20 := ⟨by decide +kernel, rfl⟩
theorem d_x_most_20 : xd b_x_most 20 (.ireturn) 1 21 := ⟨by decide +kernel, rfl⟩
theorem d_x_most_21 : xd b_x_most 21 (.iconst 0) 1 22 := ⟨by decide +kernel, rfl⟩
theorem d_x_most_22 : xd b_x_most 22 (.istore_n 2) 1 23 := ⟨by decide +kernel, rfl⟩
theorem d_x_most_23 : xd b_x_most 23 (.iconst 0) 1 24 := ⟨by decide +kernel, rfl⟩
theorem d_x_most_24 : xd b_x_most 24 (.istore_n 3) 1 25 := ⟨by decide +kernel, rfl⟩
theorem d_x_most_25 : xd b_x_most 25 (.iload_n 3) 1 26 := ⟨by decide +kernel, rfl⟩
theorem d_x_most_26 : xd b_x_most 26 (.aload_n 0) 1 27 := ⟨by decide +kernel, rfl⟩
theorem d_x_most_27 : xd b_x_most 27 (.getfield 149) 3 30 := ⟨by decide +kernel, rfl⟩
theorem d_x_most_30 : xj b_x_most 30 (.if_icmp .ge 24) 3 33 (24) 54 := ⟨by decide +kernel, rfl, by decide⟩
theorem d_x_most_33 : xd b_x_most 33 (.iload_n 2) 1 34 := ⟨by decide +kernel, rfl⟩
theorem d_x_most_34 : xd b_x_most 34 (.aload_n 0) 1 35 := ⟨by decide +kernel, rfl⟩
theorem d_x_most_35 : xd b_x_most 35 (.getfield 53) 3 38 := ⟨by decide +kernel, rfl⟩
theorem d_x_most_38 : xd b_x_most 38 (.iconst 5) 1 39 := ⟨by decide +kernel, rfl⟩
theorem d_x_most_39 : xd b_x_most 39 (.iload_n 3) 1 40 := ⟨by decide +kernel, rfl⟩
theorem d_x_most_40 : xd b_x_most 40 (.imul) 1 41 := ⟨by decide +kernel, rfl⟩
theorem d_x_most_41 : xd b_x_most 41 (.iload_n 1) 1 42 := ⟨by decide +kernel, rfl⟩
theorem d_x_most_42 : xd b_x_most 42 (.iadd) 1 43 := ⟨by decide +kernel, rfl⟩
theorem d_x_most_43 : xd b_x_most 43 (.iaload) 1 44 := ⟨by decide +kernel, rfl⟩
theorem d_x_most_44 : xd b_x_most 44 (.invokestatic 112) 3 47 := ⟨by decide +kernel, rfl⟩
theorem d_x_most_47 : xd b_x_most 47 (.istore_n 2) 1 48 := ⟨by decide +kernel, rfl⟩
theorem d_x_most_48 : xd b_x_most 48 (.iinc 3 1) 3 51 := ⟨by decide +kernel, rfl⟩
theorem d_x_most_51 : xj b_x_most 51 (.goto (-26)) 3 54 (-26) 25 := ⟨by decide +kernel, rfl, by decide⟩
theorem d_x_most_54 : xd b_x_most 54 (.iload_n 2) 1 55 := ⟨by decide +kernel, rfl⟩
theorem d_x_most_55 : xd b_x_most 55 (.invokestatic 182) 3 58 := ⟨by decide +kernel, rfl⟩
theorem d_x_most_58 : xd b_x_most 58 (.ireturn) 1 59 := ⟨by decide +kernel, rfl⟩
theorem d_x_live_0 : xd b_x_live 0 (.aload_n 0) 1 1 := ⟨by decide +kernel, rfl⟩
theorem d_x_live_1 : xd b_x_live 1 (.invokevirtual 179) 3 4 := ⟨by decide +kernel, rfl⟩
theorem d_x_live_4 : xj b_x_live 4 (.ifCond .eq 31) 3 7 (31) 35 := ⟨by decide +kernel, rfl, by decide⟩
theorem d_x_live_7 : xd b_x_live 7 (.iload_n 1) 1 8 := ⟨by decide +kernel, rfl⟩
theorem d_x_live_8 : xj b_x_live 8 (.ifCond .lt 27) 3 11 (27) 35 := ⟨by decide +kernel, rfl, by decide⟩
theorem d_x_live_11 : xd b_x_live 11 (.iload_n 1) 1 12 := ⟨by decide +kernel, rfl⟩
theorem d_x_live_12 : xd b_x_live 12 (.aload_n 0) 1 13 := ⟨by decide +kernel, rfl⟩
theorem d_x_live_13 : xd b_x_live 13 (.getfield 59) 3 16 := ⟨by decide +kernel, rfl⟩
theorem d_x_live_16 : xj b_x_live 16 (.if_icmp .ge 19) 3 19 (19) 35 := ⟨by decide +kernel, rfl, by decide⟩
theorem d_x_live_19 : xd b_x_live 19 (.aload_n 0) 1 20 := ⟨by decide +kernel, rfl⟩
theorem d_x_live_20 : xd b_x_live 20 (.getfield 152) 3 23 := ⟨by decide +kernel, rfl⟩
theorem d_x_live_23 : xd b_x_live 23 (.iload_n 1) 1 24 := ⟨by decide +kernel, rfl⟩
theorem d_x_live_24 : xd b_x_live 24 (.ishr) 1 25 := ⟨by decide +kernel, rfl⟩
theorem d_x_live_25 : xd b_x_live 25 (.iconst 1) 1 26 := ⟨by decide +kernel, rfl⟩
theorem d_x_live_26 : xd b_x_live 26 (.iand) 1 27 := ⟨by decide +kernel, rfl⟩
theorem d_x_live_27 : xd b_x_live 27 (.iconst 1) 1 28 := ⟨by decide +kernel, rfl⟩
theorem d_x_live_28 : xj b_x_live 28 (.if_icmp .ne 7) 3 31 (7) 35 := ⟨by decide +kernel, rfl, by decide⟩
theorem d_x_live_31 : xd b_x_live 31 (.iconst 1) 1 32 := ⟨by decide +kernel, rfl⟩
theorem d_x_live_32 : xj b_x_live 32 (.goto 4) 3 35 (4) 36 := ⟨by decide +kernel, rfl, by decide⟩
theorem d_x_live_35 : xd b_x_live 35 (.iconst 0) 1 36 := ⟨by decide +kernel, rfl⟩
theorem d_x_live_36 : xd b_x_live 36 (.ireturn) 1 37 := ⟨by decide +kernel, rfl⟩
theorem d_x_limits_0 : xd b_x_limits 0 (.aload_n 0) 1 1 := ⟨by decide +kernel, rfl⟩
theorem d_x_limits_1 : xd b_x_limits 1 (.invokevirtual 179) 3 4 := ⟨by decide +kernel, rfl⟩
theorem d_x_limits_4 : xj b_x_limits 4 (.ifCond .eq 10) 3 7 (10) 14 := ⟨by decide +kernel, rfl, by decide⟩
theorem d_x_limits_7 : xd b_x_limits 7 (.aload_n 0) 1 8 := ⟨by decide +kernel, rfl⟩
theorem d_x_limits_8 : xd b_x_limits 8 (.getfield 161) 3 11 := ⟨by decide +kernel, rfl⟩
theorem d_x_limits_11 : xj b_x_limits 11 (.goto 4) 3 14 (4) 15 := ⟨by decide +kernel, rfl, by decide⟩
theorem d_x_limits_14 : xd b_x_limits 14 (.iconst (-1)) 1 15 := ⟨by decide +kernel, rfl⟩
theorem d_x_limits_15 : xd b_x_limits 15 (.ireturn) 1 16 := ⟨by decide +kernel, rfl⟩
theorem d_x_limit_0 : xd b_x_limit 0 (.aload_n 0) 1 1 := ⟨by decide +kernel, rfl⟩
theorem d_x_limit_1 : xd b_x_limit 1 (.invokevirtual 179) 3 4 := ⟨by decide +kernel, rfl⟩
theorem d_x_limit_4 : xj b_x_limit 4 (.ifCond .eq 31) 3 7 (31) 35 := ⟨by decide +kernel, rfl, by decide⟩
theorem d_x_limit_7 : xd b_x_limit 7 (.iload_n 1) 1 8 := ⟨by decide +kernel, rfl⟩
theorem d_x_limit_8 : xj b_x_limit 8 (.ifCond .lt 27) 3 11 (27) 35 := ⟨by decide +kernel, rfl, by decide⟩
theorem d_x_limit_11 : xd b_x_limit 11 (.iload_n 1) 1 12 := ⟨by decide +kernel, rfl⟩
theorem d_x_limit_12 : xd b_x_limit 12 (.aload_n 0) 1 13 := ⟨by decide +kernel, rfl⟩
theorem d_x_limit_13 : xd b_x_limit 13 (.getfield 161) 3 16 := ⟨by decide +kernel, rfl⟩
theorem d_x_limit_16 : xj b_x_limit 16 (.if_icmp .ge 19) 3 19 (19) 35 := ⟨by decide +kernel, rfl, by decide⟩
theorem d_x_limit_19 : xd b_x_limit 19 (.iload_n 2) 1 20 := ⟨by decide +kernel, rfl⟩
theorem d_x_limit_20 : xj b_x_limit 20 (.ifCond .lt 15) 3 23 (15) 35 := ⟨by decide +kernel, rfl, by decide⟩
theorem d_x_limit_23 : xd b_x_limit 23 (.iload_n 2) 1 24 := ⟨by decide +kernel, rfl⟩
theorem d_x_limit_24 : xd b_x_limit 24 (.aload_n 0) 1 25 := ⟨by decide +kernel, rfl⟩
theorem d_x_limit_25 : xd b_x_limit 25 (.getfield 164) 3 28 := ⟨by decide +kernel, rfl⟩
theorem d_x_limit_28 : xj b_x_limit 28 (.if_icmp .ge 7) 3 31 (7) 35 := ⟨by decide +kernel, rfl, by decide⟩
theorem d_x_limit_31 : xd b_x_limit 31 (.iconst 1) 1 32 := ⟨by decide +kernel, rfl⟩
theorem d_x_limit_32 : xj b_x_limit 32 (.goto 4) 3 35 (4) 36 := ⟨by decide +kernel, rfl, by decide⟩
theorem d_x_limit_35 : xd b_x_limit 35 (.iconst 0) 1 36 := ⟨by decide +kernel, rfl⟩
theorem d_x_limit_36 : xd b_x_limit 36 (.istore_n 3) 1 37 := ⟨by decide +kernel, rfl⟩
theorem d_x_limit_37 : xd b_x_limit 37 (.iload_n 3) 1 38 := ⟨by decide +kernel, rfl⟩
theorem d_x_limit_38 : xj b_x_limit 38 (.ifCond .eq 24) 3 41 (24) 62 := ⟨by decide +kernel, rfl, by decide⟩
theorem d_x_limit_41 : xd b_x_limit 41 (.aload_n 0) 1 42 := ⟨by decide +kernel, rfl⟩
theorem d_x_limit_42 : xd b_x_limit 42 (.getfield 53) 3 45 := ⟨by decide +kernel, rfl⟩
theorem d_x_limit_45 : xd b_x_limit 45 (.iconst 5) 1 46 := ⟨by decide +kernel, rfl⟩
theorem d_x_limit_46 : xd b_x_limit 46 (.aload_n 0) 1 47 := ⟨by decide +kernel, rfl⟩
theorem d_x_limit_47 : xd b_x_limit 47 (.getfield 62) 3 50 := ⟨by decide +kernel, rfl⟩
theorem d_x_limit_50 : xd b_x_limit 50 (.iload_n 1) 1 51 := ⟨by decide +kernel, rfl⟩
theorem d_x_limit_51 : xd b_x_limit 51 (.saload) 1 52 := ⟨by decide +kernel, rfl⟩
theorem d_x_limit_52 : xd b_x_limit 52 (.imul) 1 53 := ⟨by decide +kernel, rfl⟩
theorem d_x_limit_53 : xd b_x_limit 53 (.iload_n 2) 1 54 := ⟨by decide +kernel, rfl⟩
theorem d_x_limit_54 : xd b_x_limit 54 (.iadd) 1 55 := ⟨by decide +kernel, rfl⟩
theorem d_x_limit_55 : xd b_x_limit 55 (.iaload) 1 56 := ⟨by decide +kernel, rfl⟩
theorem d_x_limit_56 : xd b_x_limit 56 (.invokestatic 182) 3 59 := ⟨by decide +kernel, rfl⟩
theorem d_x_limit_59 : xj b_x_limit 59 (.goto 4) 3 62 (4) 63 := ⟨by decide +kernel, rfl, by decide⟩
theorem d_x_limit_62 : xd b_x_limit 62 (.iconst (-1)) 1 63 := ⟨by decide +kernel, rfl⟩
theorem d_x_limit_63 : xd b_x_limit 63 (.ireturn) 1 64 := ⟨by decide +kernel, rfl⟩
theorem d_x_covers_0 : xd b_x_covers 0 (.iconst 0) 1 1 := ⟨by decide +kernel, rfl⟩
theorem d_x_covers_1 : xd b_x_covers 1 (.istore_n 1) 1 2 := ⟨by decide +kernel, rfl⟩
theorem d_x_covers_2 : xd b_x_covers 2 (.iconst 0) 1 3 := ⟨by decide +kernel, rfl⟩
theorem d_x_covers_3 : xd b_x_covers 3 (.istore_n 2) 1 4 := ⟨by decide +kernel, rfl⟩
theorem d_x_covers_4 : xd b_x_covers 4 (.iload_n 2) 1 5 := ⟨by decide +kernel, rfl⟩
theorem d_x_covers_5 : xd b_x_covers 5 (.aload_n 0) 1 6 := ⟨by decide +kernel, rfl⟩
theorem d_x_covers_6 : xd b_x_covers 6 (.getfield 161) 3 9 := ⟨by decide +kernel, rfl⟩
theorem d_x_covers_9 : xj b_x_covers 9 (.if_icmp .ge 81) 3 12 (81) 90 := ⟨by decide +kernel, rfl, by decide⟩
theorem d_x_covers_12 : xd b_x_covers 12 (.aload_n 0) 1 13 := ⟨by decide +kernel, rfl⟩
theorem d_x_covers_13 : xd b_x_covers 13 (.invokevirtual 179) 3 16 := ⟨by decide +kernel, rfl⟩
theorem d_x_covers_16 : xj b_x_covers 16 (.ifCond .eq 74) 3 19 (74) 90 := ⟨by decide +kernel, rfl, by decide⟩
theorem d_x_covers_19 : xd b_x_covers 19 (.aload_n 0) 1 20 := ⟨by decide +kernel, rfl⟩
theorem d_x_covers_20 : xd b_x_covers 20 (.getfield 164) 3 23 := ⟨by decide +kernel, rfl⟩
theorem d_x_covers_23 : xd b_x_covers 23 (.aload_n 0) 1 24 := ⟨by decide +kernel, rfl⟩
theorem d_x_covers_24 : xd b_x_covers 24 (.getfield 65) 3 27 := ⟨by decide +kernel, rfl⟩
theorem d_x_covers_27 : xj b_x_covers 27 (.if_icmp .ne 63) 3 30 (63) 90 := ⟨by decide +kernel, rfl, by decide⟩
theorem d_x_covers_30 : xd b_x_covers 30 (.iload_n 1) 1 31 := ⟨by decide +kernel, rfl⟩
theorem d_x_covers_31 : xj b_x_covers 31 (.ifCond .ne 59) 3 34 (59) 90 := ⟨by decide +kernel, rfl, by decide⟩
theorem d_x_covers_34 : xd b_x_covers 34 (.iconst 1) 1 35 := ⟨by decide +kernel, rfl⟩
theorem d_x_covers_35 : xd b_x_covers 35 (.istore_n 1) 1 36 := ⟨by decide +kernel, rfl⟩
theorem d_x_covers_36 : xd b_x_covers 36 (.iconst 0) 1 37 := ⟨by decide +kernel, rfl⟩
theorem d_x_covers_37 : xd b_x_covers 37 (.istore_n 3) 1 38 := ⟨by decide +kernel, rfl⟩
theorem d_x_covers_38 : xd b_x_covers 38 (.iload_n 3) 1 39 := ⟨by decide +kernel, rfl⟩
theorem d_x_covers_39 : xd b_x_covers 39 (.aload_n 0) 1 40 := ⟨by decide +kernel, rfl⟩
theorem d_x_covers_40 : xd b_x_covers 40 (.getfield 65) 3 43 := ⟨by decide +kernel, rfl⟩
theorem d_x_covers_43 : xj b_x_covers 43 (.if_icmp .ge 41) 3 46 (41) 84 := ⟨by decide +kernel, rfl, by decide⟩
theorem d_x_covers_46 : xd b_x_covers 46 (.iload_n 1) 1 47 := ⟨by decide +kernel, rfl⟩
theorem d_x_covers_47 : xd b_x_covers 47 (.aload_n 0) 1 48 := ⟨by decide +kernel, rfl⟩
theorem d_x_covers_48 : xd b_x_covers 48 (.getfield 53) 3 51 := ⟨by decide +kernel, rfl⟩
theorem d_x_covers_51 : xd b_x_covers 51 (.iconst 5) 1 52 := ⟨by decide +kernel, rfl⟩
theorem d_x_covers_52 : xd b_x_covers 52 (.aload_n 0) 1 53 := ⟨by decide +kernel, rfl⟩
theorem d_x_covers_53 : xd b_x_covers 53 (.getfield 62) 3 56 := ⟨by decide +kernel, rfl⟩
theorem d_x_covers_56 : xd b_x_covers 56 (.iload_n 2) 1 57 := ⟨by decide +kernel, rfl⟩
theorem d_x_covers_57 : xd b_x_covers 57 (.saload) 1 58 := ⟨by decide +kernel, rfl⟩
theorem d_x_covers_58 : xd b_x_covers 58 (.imul) 1 59 := ⟨by decide +kernel, rfl⟩
theorem d_x_covers_59 : xd b_x_covers 59 (.iload_n 3) 1 60 := ⟨by decide +kernel, rfl⟩
theorem d_x_covers_60 : xd b_x_covers 60 (.iadd) 1 61 := ⟨by decide +kernel, rfl⟩
theorem d_x_covers_61 : xd b_x_covers 61 (.iaload) 1 62 := ⟨by decide +kernel, rfl⟩
theorem d_x_covers_62 : xd b_x_covers 62 (.aload_n 0) 1 63 := ⟨by decide +kernel, rfl⟩
theorem d_x_covers_63 : xd b_x_covers 63 (.getfield 16) 3 66 := ⟨by decide +kernel, rfl⟩
theorem d_x_covers_66 : xd b_x_covers 66 (.iload_n 3) 1 67 := ⟨by decide +kernel, rfl⟩
theorem d_x_covers_67 : xd b_x_covers 67 (.iaload) 1 68 := ⟨by decide +kernel, rfl⟩
theorem d_x_covers_68 : xj b_x_covers 68 (.if_icmp .lt 7) 3 71 (7) 75 := ⟨by decide +kernel, rfl, by decide⟩
theorem d_x_covers_71 : xd b_x_covers 71 (.iconst 1) 1 72 := ⟨by decide +kernel, rfl⟩
theorem d_x_covers_72 : xj b_x_covers 72 (.goto 4) 3 75 (4) 76 := ⟨by decide +kernel, rfl, by decide⟩
theorem d_x_covers_75 : xd b_x_covers 75 (.iconst 0) 1 76 := ⟨by decide +kernel, rfl⟩
theorem d_x_covers_76 : xd b_x_covers 76 (.iand) 1 77 := ⟨by decide +kernel, rfl⟩
theorem d_x_covers_77 : xd b_x_covers 77 (.istore_n 1) 1 78 := ⟨by decide +kernel, rfl⟩
theorem d_x_covers_78 : xd b_x_covers 78 (.iinc 3 1) 3 81 := ⟨by decide +kernel, rfl⟩
theorem d_x_covers_81 : xj b_x_covers 81 (.goto (-43)) 3 84 (-43) 38 := ⟨by decide +kernel, rfl, by decide⟩
theorem d_x_covers_84 : xd b_x_covers 84 (.iinc 2 1) 3 87 := ⟨by decide +kernel, rfl⟩
theorem d_x_covers_87 : xj b_x_covers 87 (.goto (-83)) 3 90 (-83) 4 := ⟨by decide +kernel, rfl, by decide⟩
theorem d_x_covers_90 : xd b_x_covers 90 (.iload_n 1) 1 91 := ⟨by decide +kernel, rfl⟩
theorem d_x_covers_91 : xd b_x_covers 91 (.ireturn) 1 92 := ⟨by decide +kernel, rfl⟩
end
section
theorem d_m_init_0 : xd b_m_init 0 (.aload_n 0) 1 1 := ⟨by decide +kernel, rfl⟩
theorem d_m_init_1 : xd b_m_init 1 (.invokespecial 1) 3 4 := ⟨by decide +kernel, rfl⟩
theorem d_m_init_4 : xd b_m_init 4 (.aload_n 0) 1 5 := ⟨by decide +kernel, rfl⟩
theorem d_m_init_5 : xd b_m_init 5 (.iconst 5) 1 6 := ⟨by decide +kernel, rfl⟩
theorem d_m_init_6 : xd b_m_init 6 (.newarray .int) 2 8 := ⟨by decide +kernel, rfl⟩
theorem d_m_init_8 : xd b_m_init 8 (.putfield 7) 3 11 := ⟨by decide +kernel, rfl⟩
theorem d_m_init_11 : xd b_m_init 11 (.aload_n 0) 1 12 := ⟨by decide +kernel, rfl⟩
theorem d_m_init_12 : xd b_m_init 12 (.iconst 5) 1 13 := ⟨by decide +kernel, rfl⟩
theorem d_m_init_13 : xd b_m_init 13 (.newarray .int) 2 15 := ⟨by decide +kernel, rfl⟩
theorem d_m_init_15 : xd b_m_init 15 (.putfield 13) 3 18 := ⟨by decide +kernel, rfl⟩
theorem d_m_init_18 : xd b_m_init 18 (.aload_n 0) 1 19 := ⟨by decide +kernel, rfl⟩
theorem d_m_init_19 : xd b_m_init 19 (.bipush 30) 2 21 := ⟨by decide +kernel, rfl⟩
theorem d_m_init_21 : xd b_m_init 21 (.newarray .int) 2 23 := ⟨by decide +kernel, rfl⟩
theorem d_m_init_23 : xd b_m_init 23 (.putfield 16) 3 26 := ⟨by decide +kernel, rfl⟩
theorem d_m_init_26 : xd b_m_init 26 (.aload_n 0) 1 27 := ⟨by decide +kernel, rfl⟩
theorem d_m_init_27 : xd b_m_init 27 (.bipush 30) 2 29 := ⟨by decide +kernel, rfl⟩
theorem d_m_init_29 : xd b_m_init 29 (.newarray .int) 2 31 := ⟨by decide +kernel, rfl⟩
theorem d_m_init_31 : xd b_m_init 31 (.putfield 19) 3 34 := ⟨by decide +kernel, rfl⟩
theorem d_m_init_34 : xd b_m_init 34 (.aload_n 0) 1 35 := ⟨by decide +kernel, rfl⟩
theorem d_m_init_35 : xd b_m_init 35 (.iconst 5) 1 36 := ⟨by decide +kernel, rfl⟩
theorem d_m_init_36 : xd b_m_init 36 (.newarray .int) 2 38 := ⟨by decide +kernel, rfl⟩
theorem d_m_init_38 : xd b_m_init 38 (.putfield 22) 3 41 := ⟨by decide +kernel, rfl⟩
theorem d_m_init_41 : xd b_m_init 41 (.aload_n 0) 1 42 := ⟨by decide +kernel, rfl⟩
theorem d_m_init_42 : xd b_m_init 42 (.iconst 2) 1 43 := ⟨by decide +kernel, rfl⟩
theorem d_m_init_43 : xd b_m_init 43 (.putfield 25) 3 46 := ⟨by decide +kernel, rfl⟩
theorem d_m_init_46 : xd b_m_init 46 (.aload_n 0) 1 47 := ⟨by decide +kernel, rfl⟩
theorem d_m_init_47 : xd b_m_init 47 (.bipush 61) 2 49 := ⟨by decide +kernel, rfl⟩
theorem d_m_init_49 : xd b_m_init 49 (.newarray .int) 2 51 := ⟨by decide +kernel, rfl⟩
theorem d_m_init_51 : xd b_m_init 51 (.putfield 29) 3 54 := ⟨by decide +kernel, rfl⟩
theorem d_m_init_54 : xd b_m_init 54 (.aload_n 0) 1 55 := ⟨by decide +kernel, rfl⟩
theorem d_m_init_55 : xd b_m_init 55 (.ldc 32) 2 57 := ⟨by decide +kernel, rfl⟩
theorem d_m_init_57 : xd b_m_init 57 (.newarray .int) 2 59 := ⟨by decide +kernel, rfl⟩
theorem d_m_init_59 : xd b_m_init 59 (.putfield 33) 3 62 := ⟨by decide +kernel, rfl⟩
theorem d_m_init_62 : xd b_m_init 62 (.aload_n 0) 1 63 := ⟨by decide +kernel, rfl⟩
theorem d_m_init_63 : xd b_m_init 63 (.sipush 7500) 3 66 := ⟨by decide +kernel, rfl⟩
theorem d_m_init_66 : xd b_m_init 66 (.newarray .int) 2 68 := ⟨by decide +kernel, rfl⟩
theorem d_m_init_68 : xd b_m_init 68 (.putfield 36) 3 71 := ⟨by decide +kernel, rfl⟩
theorem d_m_init_71 : xd b_m_init 71 (.aload_n 0) 1 72 := ⟨by decide +kernel, rfl⟩
theorem d_m_init_72 : xd b_m_init 72 (.sipush 7500) 3 75 := ⟨by decide +kernel, rfl⟩
theorem d_m_init_75 : xd b_m_init 75 (.newarray .int) 2 77 := ⟨by decide +kernel, rfl⟩
theorem d_m_init_77 : xd b_m_init 77 (.putfield 39) 3 80 := ⟨by decide +kernel, rfl⟩
theorem d_m_init_80 : xd b_m_init 80 (.aload_n 0) 1 81 := ⟨by decide +kernel, rfl⟩
theorem d_m_init_81 : xd b_m_init 81 (.bipush 60) 2 83 := ⟨by decide +kernel, rfl⟩
theorem d_m_init_83 : xd b_m_init 83 (.newarray .int) 2 85 := ⟨by decide +kernel, rfl⟩
theorem d_m_init_85 : xd b_m_init 85 (.putfield 42) 3 88 := ⟨by decide +kernel, rfl⟩
theorem d_m_init_88 : xd b_m_init 88 (.aload_n 0) 1 89 := ⟨by decide +kernel, rfl⟩
theorem d_m_init_89 : xd b_m_init 89 (.sipush 5005) 3 92 := ⟨by decide +kernel, rfl⟩
theorem d_m_init_92 : xd b_m_init 92 (.newarray .int) 2 94 := ⟨by decide +kernel, rfl⟩
theorem d_m_init_94 : xd b_m_init 94 (.putfield 45) 3 97 := ⟨by decide +kernel, rfl⟩
theorem d_m_init_97 : xd b_m_init 97 (.aload_n 0) 1 98 := ⟨by decide +kernel, rfl⟩
theorem d_m_init_98 : xd b_m_init 98 (.sipush 1001) 3 101 := ⟨by decide +kernel, rfl⟩
theorem d_m_init_101 : xd b_m_init 101 (.newarray .int) 2 103 := ⟨by decide +kernel, rfl⟩
theorem d_m_init_103 : xd b_m_init 103 (.putfield 48) 3 106 := ⟨by decide +kernel, rfl⟩
theorem d_m_init_106 : xd b_m_init 106 (.aload_n 0) 1 107 := ⟨by decide +kernel, rfl⟩
theorem d_m_init_107 : xd b_m_init 107 (.sipush 1001) 3 110 := ⟨by decide +kernel, rfl⟩
theorem d_m_init_110 : xd b_m_init 110 (.newarray .int) 2 112 := ⟨by decide +kernel, rfl⟩
theorem d_m_init_112 : xd b_m_init 112 (.putfield 51) 3 115 := ⟨by decide +kernel, rfl⟩
theorem d_m_init_115 : xd b_m_init 115 (.aload_n 0) 1 116 := ⟨by decide +kernel, rfl⟩
theorem d_m_init_116 : xd b_m_init 116 (.iconst 5) 1 117 := ⟨by decide +kernel, rfl⟩
theorem d_m_init_117 : xd b_m_init 117 (.newarray .int) 2 119 := ⟨by decide +kernel, rfl⟩
theorem d_m_init_119 : xd b_m_init 119 (.putfield 54) 3 122 := ⟨by decide +kernel, rfl⟩
theorem d_m_init_122 : xd b_m_init 122 (.aload_n 0) 1 123 := ⟨by decide +kernel, rfl⟩
theorem d_m_init_123 : xd b_m_init 123 (.iconst 5) 1 124 := ⟨by decide +kernel, rfl⟩
theorem d_m_init_124 : xd b_m_init 124 (.newarray .int) 2 126 := ⟨by decide +kernel, rfl⟩
theorem d_m_init_126 : xd b_m_init 126 (.putfield 57) 3 129 := ⟨by decide +kernel, rfl⟩
theorem d_m_init_129 : xd b_m_init 129 (.return_) 1 130 := ⟨by decide +kernel, rfl⟩
theorem d_m_isPlace_0 : xd b_m_isPlace 0 (.iload_n 1) 1 1 := ⟨by decide +kernel, rfl⟩
theorem d_m_isPlace_1 : xj b_m_isPlace 1 (.ifCond .lt 15) 3 4 (15) 16 := ⟨by decide +kernel, rfl, by decide⟩
theorem d_m_isPlace_4 : xd b_m_isPlace 4 (.iload_n 1) 1 5 := ⟨by decide +kernel, rfl⟩
theorem d_m_isPlace_5 : xd b_m_isPlace 5 (.aload_n 0) 1 6 := ⟨by decide +kernel, rfl⟩
theorem d_m_isPlace_6 : xd b_m_isPlace 6 (.getfield 60) 3 9 := ⟨by decide +kernel, rfl⟩
theorem d_m_isPlace_9 : xj b_m_isPlace 9 (.if_icmp .ge 7) 3 12 (7) 16 := ⟨by decide +kernel, rfl, by decide⟩
theorem d_m_isPlace_12 : xd b_m_isPlace 12 (.iconst 1) 1 13 := ⟨by decide +kernel, rfl⟩
theorem d_m_isPlace_13 : xj b_m_isPlace 13 (.goto 4) 3 16 (4) 17 := ⟨by decide +kernel, rfl, by decide⟩
theorem d_m_isPlace_16 : xd b_m_isPlace 16 (.iconst 0) 1 17 := ⟨by decide +kernel, rfl⟩
theorem d_m_isPlace_17 : xd b_m_isPlace 17 (.ireturn) 1 18 := ⟨by decide +kernel, rfl⟩
theorem d_m_isTransition_0 : xd b_m_isTransition 0 (.iload_n 1) 1 1 := ⟨by decide +kernel, rfl⟩
theorem d_m_isTransition_1 : xj b_m_isTransition 1 (.ifCond .lt 15) 3 4 (15) 16 := ⟨by decide +kernel, rfl, by decide⟩
theorem d_m_isTransition_4 : xd b_m_isTransition 4 (.iload_n 1) 1 5 := ⟨by decide +kernel, rfl⟩
theorem d_m_isTransition_5 : xd b_m_isTransition 5 (.aload_n 0) 1 6 := ⟨by decide +kernel, rfl⟩
theorem d_m_isTransition_6 : xd b_m_isTransition 6 (.getfield 63) 3 9 := ⟨by decide +kernel, rfl⟩
theorem d_m_isTransition_9 : xj b_m_isTransition 9 (.if_icmp .ge 7) 3 12 (7) 16 := ⟨by decide +kernel, rfl, by decide⟩
theorem d_m_isTransition_12 : xd b_m_isTransition 12 (.iconst 1) 1 13 := ⟨by decide +kernel, rfl⟩
theorem d_m_isTransition_13 : xj b_m_isTransition 13 (.goto 4) 3 16 (4) 17 := ⟨by decide +kernel, rfl, by decide⟩
theorem d_m_isTransition_16 : xd b_m_isTransition 16 (.iconst 0) 1 17 := ⟨by decide +kernel, rfl⟩
theorem d_m_isTransition_17 : xd b_m_isTransition 17 (.ireturn) 1 18 := ⟨by decide +kernel, rfl⟩
theorem d_m_isIn2_0 : xd b_m_isIn2 0 (.iload_n 0) 1 1 := ⟨by decide +kernel, rfl⟩
theorem d_m_isIn2_1 : xj b_m_isIn2 1 (.ifCond .lt 12) 3 4 (12) 13 := ⟨by decide +kernel, rfl, by decide⟩
theorem d_m_isIn2_4 : xd b_m_isIn2 4 (.iload_n 0) 1 5 := ⟨by decide +kernel, rfl⟩
theorem d_m_isIn2_5 : xd b_m_isIn2 5 (.iload_n 1) 1 6 := ⟨by decide +kernel, rfl⟩
theorem d_m_isIn2_6 : xj b_m_isIn2 6 (.if_icmp .gt 7) 3 9 (7) 13 := ⟨by decide +kernel, rfl, by decide⟩
theorem d_m_isIn2_9 : xd b_m_isIn2 9 (.iconst 1) 1 10 := ⟨by decide +kernel, rfl⟩
theorem d_m_isIn2_10 : xj b_m_isIn2 10 (.goto 4) 3 13 (4) 14 := ⟨by decide +kernel, rfl, by decide⟩
theorem d_m_isIn2_13 : xd b_m_isIn2 13 (.iconst 0) 1 14 := ⟨by decide +kernel, rfl⟩
theorem d_m_isIn2_14 : xd b_m_isIn2 14 (.ireturn) 1 15 := ⟨by decide +kernel, rfl⟩
theorem d_m_begin_0 : xd b_m_begin 0 (.iconst 0) 1 1 := ⟨by decide +kernel, rfl⟩
theorem d_m_begin_1 : xd b_m_begin 1 (.istore_n 1) 1 2 := ⟨by decide +kernel, rfl⟩
theorem d_m_begin_2 : xd b_m_begin 2 (.iload_n 1) 1 3 := ⟨by decide +kernel, rfl⟩
theorem d_m_begin_3 : xd b_m_begin 3 (.iconst 5) 1 4 := ⟨by decide +kernel, rfl⟩
theorem d_m_begin_4 : xj b_m_begin 4 (.if_icmp .ge 21) 3 7 (21) 25 := ⟨by decide +kernel, rfl, by decide⟩
theorem d_m_begin_7 : xd b_m_begin 7 (.aload_n 0) 1 8 := ⟨by decide +kernel, rfl⟩
theorem d_m_begin_8 : xd b_m_begin 8 (.getfield 22) 3 11 := ⟨by decide +kernel, rfl⟩
theorem d_m_begin_11 : xd b_m_begin 11 (.iload_n 1) 1 12 := ⟨by decide +kernel, rfl⟩
theorem d_m_begin_12 : xd b_m_begin 12 (.aload_n 0) 1 13 := ⟨by decide +kernel, rfl⟩
theorem d_m_begin_13 : xd b_m_begin 13 (.getfield 7) 3 16 := ⟨by decide +kernel, rfl⟩
theorem d_m_begin_16 : xd b_m_begin 16 (.iload_n 1) 1 17 := ⟨by decide +kernel, rfl⟩
theorem d_m_begin_17 : xd b_m_begin 17 (.iaload) 1 18 := ⟨by decide +kernel, rfl⟩
theorem d_m_begin_18 : xd b_m_begin 18 (.iastore) 1 19 := ⟨by decide +kernel, rfl⟩
theorem d_m_begin_19 : xd b_m_begin 19 (.iinc 1 1) 3 22 := ⟨by decide +kernel, rfl⟩
theorem d_m_begin_22 : xj b_m_begin 22 (.goto (-20)) 3 25 (-20) 2 := ⟨by decide +kernel, rfl, by decide⟩
theorem d_m_begin_25 : xd b_m_begin 25 (.return_) 1 26 := ⟨by decide +kernel, rfl⟩
theorem d_m_place_0 : xd b_m_place 0 (.aload_n 0) 1 1 := ⟨by decide +kernel, rfl⟩
theorem d_m_place_1 : xd b_m_place 1 (.getfield 60) 3 4 := ⟨by decide +kernel, rfl⟩
theorem d_m_place_4 : xd b_m_place 4 (.iconst 5) 1 5 := ⟨by decide +kernel, rfl⟩
theorem d_m_place_5 : xj b_m_place 5 (.if_icmp .eq 12) 3 8 (12) 17 := ⟨by decide +kernel, rfl, by decide⟩
theorem d_m_place_8 : xd b_m_place 8 (.iload_n 1) 1 9 := ⟨by decide +kernel, rfl⟩
theorem d_m_place_9 : xd b_m_place 9 (.bipush 20) 2 11 := ⟨by decide +kernel, rfl⟩
theorem d_m_place_11 : xd b_m_place 11 (.invokestatic 66) 3 14 := ⟨by decide +kernel, rfl⟩
theorem d_m_place_14 : xj b_m_place 14 (.ifCond .ne 5) 3 17 (5) 19 := ⟨by decide +kernel, rfl, by decide⟩
theorem d_m_place_17 : xd b_m_place 17 (.iconst (-1)) 1 18 := ⟨by decide +kernel, rfl⟩
theorem d_m_place_18 : xd b_m_place 18 (.ireturn) 1 19 := ⟨by decide +kernel, rfl⟩
theorem d_m_place_19 : xd b_m_place 19 (.aload_n 0) 1 20 := ⟨by decide +kernel, rfl⟩
theorem d_m_place_20 : xd b_m_place 20 (.getfield 7) 3 23 := ⟨by decide +kernel, rfl⟩
theorem d_m_place_23 : xd b_m_place 23 (.aload_n 0) 1 24 := ⟨by decide +kernel, rfl⟩
theorem d_m_place_24 : xd b_m_place 24 (.getfield 60) 3 27 := ⟨by decide +kernel, rfl⟩
theorem d_m_place_27 : xd b_m_place 27 (.iload_n 1) 1 28 := ⟨by decide +kernel, rfl⟩
theorem d_m_place_28 : xd b_m_place 28 (.iastore) 1 29 := ⟨by decide +kernel, rfl⟩
theorem d_m_place_29 : xd b_m_place 29 (.aload_n 0) 1 30 := ⟨by decide +kernel, rfl⟩
theorem d_m_place_30 : xd b_m_place 30 (.dup) 1 31 := ⟨by decide +kernel, rfl⟩
theorem d_m_place_31 : xd b_m_place 31 (.getfield 60) 3 34 := ⟨by decide +kernel, rfl⟩
theorem d_m_place_34 : xd b_m_place 34 (.iconst 1) 1 35 := ⟨by decide +kernel, rfl⟩
theorem d_m_place_35 : xd b_m_place 35 (.iadd) 1 36 := ⟨by decide +kernel, rfl⟩
theorem d_m_place_36 : xd b_m_place 36 (.putfield 60) 3 39 := ⟨by decide +kernel, rfl⟩
theorem d_m_place_39 : xd b_m_place 39 (.aload_n 0) 1 40 := ⟨by decide +kernel, rfl⟩
theorem d_m_place_40 : xd b_m_place 40 (.invokevirtual 70) 3 43 := ⟨by decide +kernel, rfl⟩
theorem d_m_place_43 : xd b_m_place 43 (.aload_n 0) 1 44 := ⟨by decide +kernel, rfl⟩
theorem d_m_place_44 : xd b_m_place 44 (.getfield 60) 3 47 := ⟨by decide +kernel, rfl⟩
theorem d_m_place_47 : xd b_m_place 47 (.iconst 1) 1 48 := ⟨by decide +kernel, rfl⟩
theorem d_m_place_48 : xd b_m_place 48 (.isub) 1 49 := ⟨by decide +kernel, rfl⟩
theorem d_m_place_49 : xd b_m_place 49 (.ireturn) 1 50 := ⟨by decide +kernel, rfl⟩
theorem d_m_transition_0 : xd b_m_transition 0 (.aload_n 0) 1 1 := ⟨by decide +kernel, rfl⟩
theorem d_m_transition_1 : xd b_m_transition 1 (.getfield 63) 3 4 := ⟨by decide +kernel, rfl⟩
theorem d_m_transition_4 : xd b_m_transition 4 (.bipush 6) 2 6 := ⟨by decide +kernel, rfl⟩
theorem d_m_transition_6 : xj b_m_transition 6 (.if_icmp .ne 5) 3 9 (5) 11 := ⟨by decide +kernel, rfl, by decide⟩
theorem d_m_transition_9 : xd b_m_transition 9 (.iconst (-1)) 1 10 := ⟨by decide +kernel, rfl⟩
theorem d_m_transition_10 : xd b_m_transition 10 (.ireturn) 1 11 := ⟨by decide +kernel, rfl⟩
theorem d_m_transition_11 : xd b_m_transition 11 (.aload_n 0) 1 12 := ⟨by decide +kernel, rfl⟩
theorem d_m_transition_12 : xd b_m_transition 12 (.dup) 1 13 := ⟨by decide +kernel, rfl⟩
theorem d_m_transition_13 : xd b_m_transition 13 (.getfield 63) 3 16 := ⟨by decide +kernel, rfl⟩
theorem d_m_transition_16 : xd b_m_transition 16 (.iconst 1) 1 17 := ⟨by decide +kernel, rfl⟩
theorem d_m_transition_17 : xd b_m_transition 17 (.iadd) 1 18 := ⟨by decide +kernel, rfl⟩
theorem d_m_transition_18 : xd b_m_transition 18 (.putfield 63) 3 21 := ⟨by decide +kernel, rfl⟩
theorem d_m_transition_21 : xd b_m_transition 21 (.aload_n 0) 1 22 := ⟨by decide +kernel, rfl⟩
theorem d_m_transition_22 : xd b_m_transition 22 (.invokevirtual 70) 3 25 := ⟨by decide +kernel, rfl⟩
theorem d_m_transition_25 : xd b_m_transition 25 (.aload_n 0) 1 26 := ⟨by decide +kernel, rfl⟩
theorem d_m_transition_26 : xd b_m_transition 26 (.getfield 63) 3 29 := ⟨by decide +kernel, rfl⟩
theorem d_m_transition_29 : xd b_m_transition 29 (.iconst 1) 1 30 := ⟨by decide +kernel, rfl⟩
theorem d_m_transition_30 : xd b_m_transition 30 (.isub) 1 31 := ⟨by decide +kernel, rfl⟩
theorem d_m_transition_31 : xd b_m_transition 31 (.ireturn) 1 32 := ⟨by decide +kernel, rfl⟩
theorem d_m_arc_0 : xd b_m_arc 0 (.aload_n 0) 1 1 := ⟨by decide +kernel, rfl⟩
theorem d_m_arc_1 : xd b_m_arc 1 (.iload_n 1) 1 2 := ⟨by decide +kernel, rfl⟩
theorem d_m_arc_2 : xd b_m_arc 2 (.invokevirtual 73) 3 5 := ⟨by decide +kernel, rfl⟩
theorem d_m_arc_5 : xj b_m_arc 5 (.ifCond .eq 28) 3 8 (28) 33 := ⟨by decide +kernel, rfl, by decide⟩
theorem d_m_arc_8 : xd b_m_arc 8 (.aload_n 0) 1 9 := ⟨by decide +kernel, rfl⟩
theorem d_m_arc_9 : xd b_m_arc 9 (.iload_n 2) 1 10 := ⟨by decide +kernel, rfl⟩
theorem d_m_arc_10 : xd b_m_arc 10 (.invokevirtual 77) 3 13 := ⟨by decide +kernel, rfl⟩
theorem d_m_arc_13 : xj b_m_arc 13 (.ifCond .eq 20) 3 16 (20) 33 := ⟨by decide +kernel, rfl, by decide⟩
theorem d_m_arc_16 : xd b_m_arc 16 (.iload_n 3) 1 17 := ⟨by decide +kernel, rfl⟩
theorem d_m_arc_17 : xd b_m_arc 17 (.iconst 5) 1 18 := ⟨by decide +kernel, rfl⟩
theorem d_m_arc_18 : xd b_m_arc 18 (.invokestatic 66) 3 21 := ⟨by decide +kernel, rfl⟩
theorem d_m_arc_21 : xj b_m_arc 21 (.ifCond .eq 12) 3 24 (12) 33 := ⟨by decide +kernel, rfl, by decide⟩
theorem d_m_arc_24 : xd b_m_arc 24 (.iload 4) 2 26 := ⟨by decide +kernel, rfl⟩
theorem d_m_arc_26 : xd b_m_arc 26 (.iconst 5) 1 27 := ⟨by decide +kernel, rfl⟩
theorem d_m_arc_27 : xd b_m_arc 27 (.invokestatic 66) 3 30 := ⟨by decide +kernel, rfl⟩
theorem d_m_arc_30 : xj b_m_arc 30 (.ifCond .ne 5) 3 33 (5) 35 := ⟨by decide +kernel, rfl, by decide⟩
theorem d_m_arc_33 : xd b_m_arc 33 (.iconst 0) 1 34 := ⟨by decide +kernel, rfl⟩
theorem d_m_arc_34 : xd b_m_arc 34 (.ireturn) 1 35 := ⟨by decide +kernel, rfl⟩
theorem d_m_arc_35 : xd b_m_arc 35 (.aload_n 0) 1 36 := ⟨by decide +kernel, rfl⟩
theorem d_m_arc_36 : xd b_m_arc 36 (.getfield 16) 3 39 := ⟨by decide +kernel, rfl⟩
theorem d_m_arc_39 : xd b_m_arc 39 (.iconst 5) 1 40 := ⟨by decide +kernel, rfl⟩
theorem d_m_arc_40 : xd b_m_arc 40 (.iload_n 1) 1 41 := ⟨by decide +kernel, rfl⟩
theorem d_m_arc_41 : xd b_m_arc 41 (.imul) 1 42 := ⟨by decide +kernel, rfl⟩
theorem d_m_arc_42 : xd b_m_arc 42 (.iload_n 2) 1 43 := ⟨by decide +kernel, rfl⟩
theorem d_m_arc_43 : xd b_m_arc 43 (.iadd) 1 44 := ⟨by decide +kernel, rfl⟩
theorem d_m_arc_44 : xd b_m_arc 44 (.iload_n 3) 1 45 := ⟨by decide +kernel, rfl⟩
theorem d_m_arc_45 : xd b_m_arc 45 (.iastore) 1 46 := ⟨by decide +kernel, rfl⟩
theorem d_m_arc_46 : xd b_m_arc 46 (.aload_n 0) 1 47 := ⟨by decide +kernel, rfl⟩
theorem d_m_arc_47 : xd b_m_arc 47 (.getfield 19) 3 50 := ⟨by decide +kernel, rfl⟩
theorem d_m_arc_50 : xd b_m_arc 50 (.iconst 5) 1 51 := ⟨by decide +kernel, rfl⟩
theorem d_m_arc_51 : xd b_m_arc 51 (.iload_n 1) 1 52 := ⟨by decide +kernel, rfl⟩
theorem d_m_arc_52 : xd b_m_arc 52 (.imul) 1 53 := ⟨by decide +kernel, rfl⟩
theorem d_m_arc_53 : xd b_m_arc 53 (.iload_n 2) 1 54 := ⟨by decide +kernel, rfl⟩
theorem d_m_arc_54 : xd b_m_arc 54 (.iadd) 1 55 := ⟨by decide +kernel, rfl⟩
theorem d_m_arc_55 : xd b_m_arc 55 (.iload 4) 2 57 := ⟨by decide +kernel, rfl⟩
theorem d_m_arc_57 : xd b_m_arc 57 (.iastore) 1 58 := ⟨by decide +kernel, rfl⟩
theorem d_m_arc_58 : xd b_m_arc 58 (.aload_n 0) 1 59 := ⟨by decide +kernel, rfl⟩
theorem d_m_arc_59 : xd b_m_arc 59 (.invokevirtual 70) 3 62 := ⟨by decide +kernel, rfl⟩
theorem d_m_arc_62 : xd b_m_arc 62 (.iconst 1) 1 63 := ⟨by decide +kernel, rfl⟩
theorem d_m_arc_63 : xd b_m_arc 63 (.ireturn) 1 64 := ⟨by decide +kernel, rfl⟩
theorem d_m_target_0 : xd b_m_target 0 (.aload_n 0) 1 1 := ⟨by decide +kernel, rfl⟩
theorem d_m_target_1 : xd b_m_target 1 (.iload_n 1) 1 2 := ⟨by decide +kernel, rfl⟩
theorem d_m_target_2 : xd b_m_target 2 (.invokevirtual 77) 3 5 := ⟨by decide +kernel, rfl⟩
theorem d_m_target_5 : xj b_m_target 5 (.ifCond .eq 12) 3 8 (12) 17 := ⟨by decide +kernel, rfl, by decide⟩
theorem d_m_target_8 : xd b_m_target 8 (.iload_n 2) 1 9 := ⟨by decide +kernel, rfl⟩
theorem d_m_target_9 : xd b_m_target 9 (.bipush 20) 2 11 := ⟨by decide +kernel, rfl⟩
theorem d_m_target_11 : xd b_m_target 11 (.invokestatic 66) 3 14 := ⟨by decide +kernel, rfl⟩
theorem d_m_target_14 : xj b_m_target 14 (.ifCond .ne 5) 3 17 (5) 19 := ⟨by decide +kernel, rfl, by decide⟩
theorem d_m_target_17 : xd b_m_target 17 (.iconst 0) 1 18 := ⟨by decide +kernel, rfl⟩
theorem d_m_target_18 : xd b_m_target 18 (.ireturn) 1 19 := ⟨by decide +kernel, rfl⟩
theorem d_m_target_19 : xd b_m_target 19 (.aload_n 0) 1 20 := ⟨by decide +kernel, rfl⟩
theorem d_m_target_20 : xd b_m_target 20 (.getfield 13) 3 23 := ⟨by decide +kernel, rfl⟩
theorem d_m_target_23 : xd b_m_target 23 (.iload_n 1) 1 24 := ⟨by decide +kernel, rfl⟩
theorem d_m_target_24 : xd b_m_target 24 (.iload_n 2) 1 25 := ⟨by decide +kernel, rfl⟩
theorem d_m_target_25 : xd b_m_target 25 (.iastore) 1 26 := ⟨by decide +kernel, rfl⟩
theorem d_m_target_26 : xd b_m_target 26 (.iconst 1) 1 27 := ⟨by decide +kernel, rfl⟩
theorem d_m_target_27 : xd b_m_target 27 (.ireturn) 1 28 := ⟨by decide +kernel, rfl⟩
theorem d_m_tops_0 : xd b_m_tops 0 (.iconst 1) 1 1 := ⟨by decide +kernel, rfl⟩
theorem d_m_tops_1 : xd b_m_tops 1 (.istore 4) 2 3 := ⟨by decide +kernel, rfl⟩
theorem d_m_tops_3 : xd b_m_tops 3 (.iconst 0) 1 4 := ⟨by decide +kernel, rfl⟩
theorem d_m_tops_4 : xd b_m_tops 4 (.istore 5) 2 6 := ⟨by decide +kernel, rfl⟩
theorem d_m_tops_6 : xd b_m_tops 6 (.iload 5) 2 8 := ⟨by decide +kernel, rfl⟩
theorem d_m_tops_8 : xd b_m_tops 8 (.iconst 5) 1 9 := ⟨by decide +kernel, rfl⟩
theorem d_m_tops_9 : xj b_m_tops 9 (.if_icmp .ge 36) 3 12 (36) 45 := ⟨by decide +kernel, rfl, by decide⟩
theorem d_m_tops_12 : xd b_m_tops 12 (.iload 4) 2 14 := ⟨by decide +kernel, rfl⟩
theorem d_m_tops_14 : xj b_m_tops 14 (.ifCond .eq 22) 3 17 (22) 36 := ⟨by decide +kernel, rfl, by decide⟩
theorem d_m_tops_17 : xd b_m_tops 17 (.aload_n 0) 1 18 := ⟨by decide +kernel, rfl⟩
theorem d_m_tops_18 : xd b_m_tops 18 (.iload_n 1) 1 19 := ⟨by decide +kernel, rfl⟩
theorem d_m_tops_19 : xd b_m_tops 19 (.iload 5) 2 21 := ⟨by decide +kernel, rfl⟩
theorem d_m_tops_21 : xd b_m_tops 21 (.iadd) 1 22 := ⟨by decide +kernel, rfl⟩
theorem d_m_tops_22 : xd b_m_tops 22 (.iaload) 1 23 := ⟨by decide +kernel, rfl⟩
theorem d_m_tops_23 : xd b_m_tops 23 (.aload_n 2) 1 24 := ⟨by decide +kernel, rfl⟩
theorem d_m_tops_24 : xd b_m_tops 24 (.iload_n 3) 1 25 := ⟨by decide +kernel, rfl⟩
theorem d_m_tops_25 : xd b_m_tops 25 (.iload 5) 2 27 := ⟨by decide +kernel, rfl⟩
theorem d_m_tops_27 : xd b_m_tops 27 (.iadd) 1 28 := ⟨by decide +kernel, rfl⟩
theorem d_m_tops_28 : xd b_m_tops 28 (.iaload) 1 29 := ⟨by decide +kernel, rfl⟩
theorem d_m_tops_29 : xj b_m_tops 29 (.if_icmp .lt 7) 3 32 (7) 36 := ⟨by decide +kernel, rfl, by decide⟩
theorem d_m_tops_32 : xd b_m_tops 32 (.iconst 1) 1 33 := ⟨by decide +kernel, rfl⟩
theorem d_m_tops_33 : xj b_m_tops 33 (.goto 4) 3 36 (4) 37 := ⟨by decide +kernel, rfl, by decide⟩
theorem d_m_tops_36 : xd b_m_tops 36 (.iconst 0) 1 37 := ⟨by decide +kernel, rfl⟩
theorem d_m_tops_37 : xd b_m_tops 37 (.istore 4) 2 39 := ⟨by decide +kernel, rfl⟩
theorem d_m_tops_39 : xd b_m_tops 39 (.iinc 5 1) 3 42 := ⟨by decide +kernel, rfl⟩
theorem d_m_tops_42 : xj b_m_tops 42 (.goto (-36)) 3 45 (-36) 6 := ⟨by decide +kernel, rfl, by decide⟩
theorem d_m_tops_45 : xd b_m_tops 45 (.iload 4) 2 47 := ⟨by decide +kernel, rfl⟩
theorem d_m_tops_47 : xd b_m_tops 47 (.ireturn) 1 48 := ⟨by decide +kernel, rfl⟩
theorem d_m_takeIn_0 : xd b_m_takeIn 0 (.iconst 0) 1 1 := ⟨by decide +kernel, rfl⟩
theorem d_m_takeIn_1 : xd b_m_takeIn 1 (.istore_n 1) 1 2 := ⟨by decide +kernel, rfl⟩
theorem d_m_takeIn_2 : xd b_m_takeIn 2 (.iload_n 1) 1 3 := ⟨by decide +kernel, rfl⟩
theorem d_m_takeIn_3 : xd b_m_takeIn 3 (.aload_n 0) 1 4 := ⟨by decide +kernel, rfl⟩
theorem d_m_takeIn_4 : xd b_m_takeIn 4 (.getfield 80) 3 7 := ⟨by decide +kernel, rfl⟩
theorem d_m_takeIn_7 : xj b_m_takeIn 7 (.if_icmp .ge 28) 3 10 (28) 35 := ⟨by decide +kernel, rfl, by decide⟩
theorem d_m_takeIn_10 : xd b_m_takeIn 10 (.aload_n 0) 1 11 := ⟨by decide +kernel, rfl⟩
theorem d_m_takeIn_11 : xd b_m_takeIn 11 (.getfield 54) 3 14 := ⟨by decide +kernel, rfl⟩
theorem d_m_takeIn_14 : xd b_m_takeIn 14 (.iconst 0) 1 15 := ⟨by decide +kernel, rfl⟩
theorem d_m_takeIn_15 : xd b_m_takeIn 15 (.aload_n 0) 1 16 := ⟨by decide +kernel, rfl⟩
theorem d_m_takeIn_16 : xd b_m_takeIn 16 (.getfield 36) 3 19 := ⟨by decide +kernel, rfl⟩
theorem d_m_takeIn_19 : xd b_m_takeIn 19 (.iconst 5) 1 20 := ⟨by decide +kernel, rfl⟩
theorem d_m_takeIn_20 : xd b_m_takeIn 20 (.iload_n 1) 1 21 := ⟨by decide +kernel, rfl⟩
theorem d_m_takeIn_21 : xd b_m_takeIn 21 (.imul) 1 22 := ⟨by decide +kernel, rfl⟩
theorem d_m_takeIn_22 : xd b_m_takeIn 22 (.invokestatic 83) 3 25 := ⟨by decide +kernel, rfl⟩
theorem d_m_takeIn_25 : xj b_m_takeIn 25 (.ifCond .eq 4) 3 28 (4) 29 := ⟨by decide +kernel, rfl, by decide⟩
theorem d_m_takeIn_28 : xd b_m_takeIn 28 (.return_) 1 29 := ⟨by decide +kernel, rfl⟩
theorem d_m_takeIn_29 : xd b_m_takeIn 29 (.iinc 1 1) 3 32 := ⟨by decide +kernel, rfl⟩
theorem d_m_takeIn_32 : xj b_m_takeIn 32 (.goto (-30)) 3 35 (-30) 2 := ⟨by decide +kernel, rfl, by decide⟩
theorem d_m_takeIn_35 : xd b_m_takeIn 35 (.iconst 0) 1 36 := ⟨by decide +kernel, rfl⟩
theorem d_m_takeIn_36 : xd b_m_takeIn 36 (.istore_n 1) 1 37 := ⟨by decide +kernel, rfl⟩
theorem d_m_takeIn_37 : xd b_m_takeIn 37 (.iconst 0) 1 38 := ⟨by decide +kernel, rfl⟩
theorem d_m_takeIn_38 : xd b_m_takeIn 38 (.istore_n 2) 1 39 := ⟨by decide +kernel, rfl⟩
theorem d_m_takeIn_39 : xd b_m_takeIn 39 (.iload_n 2) 1 40 := ⟨by decide +kernel, rfl⟩
theorem d_m_takeIn_40 : xd b_m_takeIn 40 (.aload_n 0) 1 41 := ⟨by decide +kernel, rfl⟩
theorem d_m_takeIn_41 : xd b_m_takeIn 41 (.getfield 80) 3 44 := ⟨by decide +kernel, rfl⟩
theorem d_m_takeIn_44 : xj b_m_takeIn 44 (.if_icmp .ge 63) 3 47 (63) 107 := ⟨by decide +kernel, rfl, by decide⟩
theorem d_m_takeIn_47 : xd b_m_takeIn 47 (.aload_n 0) 1 48 := ⟨by decide +kernel, rfl⟩
theorem d_m_takeIn_48 : xd b_m_takeIn 48 (.getfield 36) 3 51 := ⟨by decide +kernel, rfl⟩
theorem d_m_takeIn_51 : xd b_m_takeIn 51 (.iconst 5) 1 52 := ⟨by decide +kernel, rfl⟩
theorem d_m_takeIn_52 : xd b_m_takeIn 52 (.iload_n 2) 1 53 := ⟨by decide +kernel, rfl⟩
theorem d_m_takeIn_53 : xd b_m_takeIn 53 (.imul) 1 54 := ⟨by decide +kernel, rfl⟩
theorem d_m_takeIn_54 : xd b_m_takeIn 54 (.aload_n 0) 1 55 := ⟨by decide +kernel, rfl⟩
theorem d_m_takeIn_55 : xd b_m_takeIn 55 (.getfield 54) 3 58 := ⟨by decide +kernel, rfl⟩
theorem d_m_takeIn_58 : xd b_m_takeIn 58 (.iconst 0) 1 59 := ⟨by decide +kernel, rfl⟩
theorem d_m_takeIn_59 : xd b_m_takeIn 59 (.invokestatic 83) 3 62 := ⟨by decide +kernel, rfl⟩
theorem d_m_takeIn_62 : xj b_m_takeIn 62 (.ifCond .ne 39) 3 65 (39) 101 := ⟨by decide +kernel, rfl, by decide⟩
theorem d_m_takeIn_65 : xd b_m_takeIn 65 (.iconst 0) 1 66 := ⟨by decide +kernel, rfl⟩
theorem d_m_takeIn_66 : xd b_m_takeIn 66 (.istore_n 3) 1 67 := ⟨by decide +kernel, rfl⟩
theorem d_m_takeIn_67 : xd b_m_takeIn 67 (.iload_n 3) 1 68 := ⟨by decide +kernel, rfl⟩
theorem d_m_takeIn_68 : xd b_m_takeIn 68 (.iconst 5) 1 69 := ⟨by decide +kernel, rfl⟩
theorem d_m_takeIn_69 : xj b_m_takeIn 69 (.if_icmp .ge 29) 3 72 (29) 98 := ⟨by decide +kernel, rfl, by decide⟩
theorem d_m_takeIn_72 : xd b_m_takeIn 72 (.aload_n 0) 1 73 := ⟨by decide +kernel, rfl⟩
theorem d_m_takeIn_73 : xd b_m_takeIn 73 (.getfield 36) 3 76 := ⟨by decide +kernel, rfl⟩
theorem d_m_takeIn_76 : xd b_m_takeIn 76 (.iconst 5) 1 77 := ⟨by decide +kernel, rfl⟩
theorem d_m_takeIn_77 : xd b_m_takeIn 77 (.iload_n 1) 1 78 := ⟨by decide +kernel, rfl⟩
theorem d_m_takeIn_78 : xd b_m_takeIn 78 (.imul) 1 79 := ⟨by decide +kernel, rfl⟩
theorem d_m_takeIn_79 : xd b_m_takeIn 79 (.iload_n 3) 1 80 := ⟨by decide +kernel, rfl⟩
theorem d_m_takeIn_80 : xd b_m_takeIn 80 (.iadd) 1 81 := ⟨by decide +kernel, rfl⟩
theorem d_m_takeIn_81 : xd b_m_takeIn 81 (.aload_n 0) 1 82 := ⟨by decide +kernel, rfl⟩
theorem d_m_takeIn_82 : xd b_m_takeIn 82 (.getfield 36) 3 85 := ⟨by decide +kernel, rfl⟩
theorem d_m_takeIn_85 : xd b_m_takeIn 85 (.iconst 5) 1 86 := ⟨by decide +kernel, rfl⟩
theorem d_m_takeIn_86 : xd b_m_takeIn 86 (.iload_n 2) 1 87 := ⟨by decide +kernel, rfl⟩
theorem d_m_takeIn_87 : xd b_m_takeIn 87 (.imul) 1 88 := ⟨by decide +kernel, rfl⟩
theorem d_m_takeIn_88 : xd b_m_takeIn 88 (.iload_n 3) 1 89 := ⟨by decide +kernel, rfl⟩
theorem d_m_takeIn_89 : xd b_m_takeIn 89 (.iadd) 1 90 := ⟨by decide +kernel, rfl⟩
theorem d_m_takeIn_90 : xd b_m_takeIn 90 (.iaload) 1 91 := ⟨by decide +kernel, rfl⟩
theorem d_m_takeIn_91 : xd b_m_takeIn 91 (.iastore) 1 92 := ⟨by decide +kernel, rfl⟩
theorem d_m_takeIn_92 : xd b_m_takeIn 92 (.iinc 3 1) 3 95 := ⟨by decide +kernel, rfl⟩
theorem d_m_takeIn_95 : xj b_m_takeIn 95 (.goto (-28)) 3 98 (-28) 67 := ⟨by decide +kernel, rfl, by decide⟩
theorem d_m_takeIn_98 : xd b_m_takeIn 98 (.iinc 1 1) 3 101 := ⟨by decide +kernel, rfl⟩
theorem d_m_takeIn_101 : xd b_m_takeIn 101 (.iinc 2 1) 3 104 := ⟨by decide +kernel, rfl⟩
theorem d_m_takeIn_104 : xj b_m_takeIn 104 (.goto (-65)) 3 107 (-65) 39 := ⟨by decide +kernel, rfl, by decide⟩
theorem d_m_takeIn_107 : xd b_m_takeIn 107 (.iconst 0) 1 108 := ⟨by decide +kernel, rfl⟩
theorem d_m_takeIn_108 : xd b_m_takeIn 108 (.istore_n 2) 1 109 := ⟨by decide +kernel, rfl⟩
theorem d_m_takeIn_109 : xd b_m_takeIn 109 (.iload_n 2) 1 110 := ⟨by decide +kernel, rfl⟩
theorem d_m_takeIn_110 : xd b_m_takeIn 110 (.iconst 5) 1 111 := ⟨by decide +kernel, rfl⟩
theorem d_m_takeIn_111 : xj b_m_takeIn 111 (.if_icmp .ge 25) 3 114 (25) 136 := ⟨by decide +kernel, rfl, by decide⟩
theorem d_m_takeIn_114 : xd b_m_takeIn 114 (.aload_n 0) 1 115 := ⟨by decide +kernel, rfl⟩
theorem d_m_takeIn_115 : xd b_m_takeIn 115 (.getfield 36) 3 118 := ⟨by decide +kernel, rfl⟩
theorem d_m_takeIn_118 : xd b_m_takeIn 118 (.iconst 5) 1 119 := ⟨by decide +kernel, rfl⟩
theorem d_m_takeIn_119 : xd b_m_takeIn 119 (.iload_n 1) 1 120 := ⟨by decide +kernel, rfl⟩
theorem d_m_takeIn_120 : xd b_m_takeIn 120 (.imul) 1 121 := ⟨by decide +kernel, rfl⟩
theorem d_m_takeIn_121 : xd b_m_takeIn 121 (.iload_n 2) 1 122 := ⟨by decide +kernel, rfl⟩
theorem d_m_takeIn_122 : xd b_m_takeIn 122 (.iadd) 1 123 := ⟨by decide +kernel, rfl⟩
theorem d_m_takeIn_123 : xd b_m_takeIn 123 (.aload_n 0) 1 124 := ⟨by decide +kernel, rfl⟩
theorem d_m_takeIn_124 : xd b_m_takeIn 124 (.getfield 54) 3 127 := ⟨by decide +kernel, rfl⟩
theorem d_m_takeIn_127 : xd b_m_takeIn 127 (.iload_n 2) 1 128 := ⟨by decide +kernel, rfl⟩
theorem d_m_takeIn_128 : xd b_m_takeIn 128 (.iaload) 1 129 := ⟨by decide +kernel, rfl⟩
theorem d_m_takeIn_129 : xd b_m_takeIn 129 (.iastore) 1 130 := ⟨by decide +kernel, rfl⟩
theorem d_m_takeIn_130 : xd b_m_takeIn 130 (.iinc 2 1) 3 133 := ⟨by decide +kernel, rfl⟩
theorem d_m_takeIn_133 : xj b_m_takeIn 133 (.goto (-24)) 3 136 (-24) 109 := ⟨by decide +kernel, rfl, by decide⟩
theorem d_m_takeIn_136 : xd b_m_takeIn 136 (.aload_n 0) 1 137 := ⟨by decide +kernel, rfl⟩
theorem d_m_takeIn_137 : xd b_m_takeIn 137 (.iload_n 1) 1 138 := ⟨by decide +kernel, rfl⟩
theorem d_m_takeIn_138 : xd b_m_takeIn 138 (.iconst 1) 1 139 := ⟨by decide +kernel, rfl⟩
theorem d_m_takeIn_139 : xd b_m_takeIn 139 (.iadd) 1 140 := ⟨by decide +kernel, rfl⟩
theorem d_m_takeIn_140 : xd b_m_takeIn 140 (.putfield 80) 3 143 := ⟨by decide +kernel, rfl⟩
theorem d_m_takeIn_143 : xd b_m_takeIn 143 (.return_) 1 144 := ⟨by decide +kernel, rfl⟩
theorem d_m_isInRound_0 : xd b_m_isInRound 0 (.iconst 0) 1 1 := ⟨by decide +kernel, rfl⟩
theorem d_m_isInRound_1 : xd b_m_isInRound 1 (.istore_n 3) 1 2 := ⟨by decide +kernel, rfl⟩
theorem d_m_isInRound_2 : xd b_m_isInRound 2 (.iconst 0) 1 3 := ⟨by decide +kernel, rfl⟩
theorem d_m_isInRound_3 : xd b_m_isInRound 3 (.istore 4) 2 5 := ⟨by decide +kernel, rfl⟩
theorem d_m_isInRound_5 : xd b_m_isInRound 5 (.iload 4) 2 7 := ⟨by decide +kernel, rfl⟩
theorem d_m_isInRound_7 : xd b_m_isInRound 7 (.aload_n 0) 1 8 := ⟨by decide +kernel, rfl⟩
theorem d_m_isInRound_8 : xd b_m_isInRound 8 (.getfield 29) 3 11 := ⟨by decide +kernel, rfl⟩
theorem d_m_isInRound_11 : xd b_m_isInRound 11 (.iload_n 2) 1 12 := ⟨by decide +kernel, rfl⟩
theorem d_m_isInRound_12 : xd b_m_isInRound 12 (.iaload) 1 13 := ⟨by decide +kernel, rfl⟩
theorem d_m_isInRound_13 : xj b_m_isInRound 13 (.if_icmp .ge 41) 3 16 (41) 54 := ⟨by decide +kernel, rfl, by decide⟩
theorem d_m_isInRound_16 : xd b_m_isInRound 16 (.iload_n 3) 1 17 := ⟨by decide +kernel, rfl⟩
theorem d_m_isInRound_17 : xj b_m_isInRound 17 (.ifCond .ne 25) 3 20 (25) 42 := ⟨by decide +kernel, rfl, by decide⟩
theorem d_m_isInRound_20 : xd b_m_isInRound 20 (.aload_n 1) 1 21 := ⟨by decide +kernel, rfl⟩
theorem d_m_isInRound_21 : xd b_m_isInRound 21 (.iconst 0) 1 22 := ⟨by decide +kernel, rfl⟩
theorem d_m_isInRound_22 : xd b_m_isInRound 22 (.aload_n 0) 1 23 := ⟨by decide +kernel, rfl⟩
theorem d_m_isInRound_23 : xd b_m_isInRound 23 (.getfield 33) 3 26 := ⟨by decide +kernel, rfl⟩
theorem d_m_isInRound_26 : xd b_m_isInRound 26 (.sipush 1000) 3 29 := ⟨by decide +kernel, rfl⟩
theorem d_m_isInRound_29 : xd b_m_isInRound 29 (.iload_n 2) 1 30 := ⟨by decide +kernel, rfl⟩
theorem d_m_isInRound_30 : xd b_m_isInRound 30 (.imul) 1 31 := ⟨by decide +kernel, rfl⟩
theorem d_m_isInRound_31 : xd b_m_isInRound 31 (.iconst 5) 1 32 := ⟨by decide +kernel, rfl⟩
theorem d_m_isInRound_32 : xd b_m_isInRound 32 (.iload 4) 2 34 := ⟨by decide +kernel, rfl⟩
theorem d_m_isInRound_34 : xd b_m_isInRound 34 (.imul) 1 35 := ⟨by decide +kernel, rfl⟩
theorem d_m_isInRound_35 : xd b_m_isInRound 35 (.iadd) 1 36 := ⟨by decide +kernel, rfl⟩
theorem d_m_isInRound_36 : xd b_m_isInRound 36 (.invokestatic 83) 3 39 := ⟨by decide +kernel, rfl⟩
theorem d_m_isInRound_39 : xj b_m_isInRound 39 (.ifCond .eq 7) 3 42 (7) 46 := ⟨by decide +kernel, rfl, by decide⟩
theorem d_m_isInRound_42 : xd b_m_isInRound 42 (.iconst 1) 1 43 := ⟨by decide +kernel, rfl⟩
theorem d_m_isInRound_43 : xj b_m_isInRound 43 (.goto 4) 3 46 (4) 47 := ⟨by decide +kernel, rfl, by decide⟩
theorem d_m_isInRound_46 : xd b_m_isInRound 46 (.iconst 0) 1 47 := ⟨by decide +kernel, rfl⟩
theorem d_m_isInRound_47 : xd b_m_isInRound 47 (.istore_n 3) 1 48 := ⟨by decide +kernel, rfl⟩
theorem d_m_isInRound_48 : xd b_m_isInRound 48 (.iinc 4 1) 3 51 := ⟨by decide +kernel, rfl⟩
theorem d_m_isInRound_51 : xj b_m_isInRound 51 (.goto (-46)) 3 54 (-46) 5 := ⟨by decide +kernel, rfl, by decide⟩
theorem d_m_isInRound_54 : xd b_m_isInRound 54 (.iload_n 3) 1 55 := ⟨by decide +kernel, rfl⟩
theorem d_m_isInRound_55 : xd b_m_isInRound 55 (.ireturn) 1 56 := ⟨by decide +kernel, rfl⟩
theorem d_m_isFirstIn_0 : xd b_m_isFirstIn 0 (.iconst 0) 1 1 := ⟨by decide +kernel, rfl⟩
theorem d_m_isFirstIn_1 : xd b_m_isFirstIn 1 (.istore_n 1) 1 2 := ⟨by decide +kernel, rfl⟩
theorem d_m_isFirstIn_2 : xd b_m_isFirstIn 2 (.iconst 0) 1 3 := ⟨by decide +kernel, rfl⟩
theorem d_m_isFirstIn_3 : xd b_m_isFirstIn 3 (.istore_n 2) 1 4 := ⟨by decide +kernel, rfl⟩
theorem d_m_isFirstIn_4 : xd b_m_isFirstIn 4 (.iload_n 2) 1 5 := ⟨by decide +kernel, rfl⟩
theorem d_m_isFirstIn_5 : xd b_m_isFirstIn 5 (.aload_n 0) 1 6 := ⟨by decide +kernel, rfl⟩
theorem d_m_isFirstIn_6 : xd b_m_isFirstIn 6 (.getfield 80) 3 9 := ⟨by decide +kernel, rfl⟩
theorem d_m_isFirstIn_9 : xj b_m_isFirstIn 9 (.if_icmp .ge 37) 3 12 (37) 46 := ⟨by decide +kernel, rfl, by decide⟩
theorem d_m_isFirstIn_12 : xd b_m_isFirstIn 12 (.iload_n 1) 1 13 := ⟨by decide +kernel, rfl⟩
theorem d_m_isFirstIn_13 : xj b_m_isFirstIn 13 (.ifCond .ne 21) 3 16 (21) 34 := ⟨by decide +kernel, rfl, by decide⟩
theorem d_m_isFirstIn_16 : xd b_m_isFirstIn 16 (.aload_n 0) 1 17 := ⟨by decide +kernel, rfl⟩
theorem d_m_isFirstIn_17 : xd b_m_isFirstIn 17 (.getfield 7) 3 20 := ⟨by decide +kernel, rfl⟩
theorem d_m_isFirstIn_20 : xd b_m_isFirstIn 20 (.iconst 0) 1 21 := ⟨by decide +kernel, rfl⟩
theorem d_m_isFirstIn_21 : xd b_m_isFirstIn 21 (.aload_n 0) 1 22 := ⟨by decide +kernel, rfl⟩
theorem d_m_isFirstIn_22 : xd b_m_isFirstIn 22 (.getfield 36) 3 25 := ⟨by decide +kernel, rfl⟩
theorem d_m_isFirstIn_25 : xd b_m_isFirstIn 25 (.iconst 5) 1 26 := ⟨by decide +kernel, rfl⟩
theorem d_m_isFirstIn_26 : xd b_m_isFirstIn 26 (.iload_n 2) 1 27 := ⟨by decide +kernel, rfl⟩
theorem d_m_isFirstIn_27 : xd b_m_isFirstIn 27 (.imul) 1 28 := ⟨by decide +kernel, rfl⟩
theorem d_m_isFirstIn_28 : xd b_m_isFirstIn 28 (.invokestatic 83) 3 31 := ⟨by decide +kernel, rfl⟩
theorem d_m_isFirstIn_31 : xj b_m_isFirstIn 31 (.ifCond .eq 7) 3 34 (7) 38 := ⟨by decide +kernel, rfl, by decide⟩
theorem d_m_isFirstIn_34 : xd b_m_isFirstIn 34 (.iconst 1) 1 35 := ⟨by decide +kernel, rfl⟩
theorem d_m_isFirstIn_35 : xj b_m_isFirstIn 35 (.goto 4) 3 38 (4) 39 := ⟨by decide +kernel, rfl, by decide⟩
theorem d_m_isFirstIn_38 : xd b_m_isFirstIn 38 (.iconst 0) 1 39 := ⟨by decide +kernel, rfl⟩
theorem d_m_isFirstIn_39 : xd b_m_isFirstIn 39 (.istore_n 1) 1 40 := ⟨by decide +kernel, rfl⟩
theorem d_m_isFirstIn_40 : xd b_m_isFirstIn 40 (.iinc 2 1) 3 43 := ⟨by decide +kernel, rfl⟩
theorem d_m_isFirstIn_43 : xj b_m_isFirstIn 43 (.goto (-39)) 3 46 (-39) 4 := ⟨by decide +kernel, rfl, by decide⟩
theorem d_m_isFirstIn_46 : xd b_m_isFirstIn 46 (.iload_n 1) 1 47 := ⟨by decide +kernel, rfl⟩
theorem d_m_isFirstIn_47 : xd b_m_isFirstIn 47 (.ireturn) 1 48 := ⟨by decide +kernel, rfl⟩
theorem d_m_step_0 : xd b_m_step 0 (.iconst 0) 1 1 := ⟨by decide +kernel, rfl⟩
theorem d_m_step_1 : xd b_m_step 1 (.istore_n 1) 1 2 := ⟨by decide +kernel, rfl⟩
theorem d_m_step_2 : xd b_m_step 2 (.iload_n 1) 1 3 := ⟨by decide +kernel, rfl⟩
theorem d_m_step_3 : xd b_m_step 3 (.aload_n 0) 1 4 := ⟨by decide +kernel, rfl⟩
theorem d_m_step_4 : xd b_m_step 4 (.getfield 87) 3 7 := ⟨by decide +kernel, rfl⟩
theorem d_m_step_7 : xj b_m_step 7 (.if_icmp .ge 93) 3 10 (93) 100 := ⟨by decide +kernel, rfl, by decide⟩
theorem d_m_step_10 : xd b_m_step 10 (.iconst 0) 1 11 := ⟨by decide +kernel, rfl⟩
theorem d_m_step_11 : xd b_m_step 11 (.istore_n 2) 1 12 := ⟨by decide +kernel, rfl⟩
theorem d_m_step_12 : xd b_m_step 12 (.iload_n 2) 1 13 := ⟨by decide +kernel, rfl⟩
theorem d_m_step_13 : xd b_m_step 13 (.aload_n 0) 1 14 := ⟨by decide +kernel, rfl⟩
theorem d_m_step_14 : xd b_m_step 14 (.getfield 63) 3 17 := ⟨by decide +kernel, rfl⟩
theorem d_m_step_17 : xj b_m_step 17 (.if_icmp .ge 77) 3 20 (77) 94 := ⟨by decide +kernel, rfl, by decide⟩
theorem d_m_step_20 : xd b_m_step 20 (.iconst 0) 1 21 := ⟨by decide +kernel, rfl⟩
theorem d_m_step_21 : xd b_m_step 21 (.istore_n 3) 1 22 := ⟨by decide +kernel, rfl⟩
theorem d_m_step_22 : xd b_m_step 22 (.iload_n 3) 1 23 := ⟨by decide +kernel, rfl⟩
theorem d_m_step_23 : xd b_m_step 23 (.iconst 5) 1 24 := ⟨by decide +kernel, rfl⟩
theorem d_m_step_24 : xj b_m_step 24 (.if_icmp .ge 60) 3 27 (60) 84 := ⟨by decide +kernel, rfl, by decide⟩
theorem d_m_step_27 : xd b_m_step 27 (.aload_n 0) 1 28 := ⟨by decide +kernel, rfl⟩
theorem d_m_step_28 : xd b_m_step 28 (.getfield 39) 3 31 := ⟨by decide +kernel, rfl⟩
theorem d_m_step_31 : xd b_m_step 31 (.iconst 5) 1 32 := ⟨by decide +kernel, rfl⟩
theorem d_m_step_32 : xd b_m_step 32 (.iload_n 1) 1 33 := ⟨by decide +kernel, rfl⟩
theorem d_m_step_33 : xd b_m_step 33 (.imul) 1 34 := ⟨by decide +kernel, rfl⟩
theorem d_m_step_34 : xd b_m_step 34 (.iload_n 3) 1 35 := ⟨by decide +kernel, rfl⟩
theorem d_m_step_35 : xd b_m_step 35 (.iadd) 1 36 := ⟨by decide +kernel, rfl⟩
theorem d_m_step_36 : xd b_m_step 36 (.iaload) 1 37 := ⟨by decide +kernel, rfl⟩
theorem d_m_step_37 : xd b_m_step 37 (.aload_n 0) 1 38 := ⟨by decide +kernel, rfl⟩
theorem d_m_step_38 : xd b_m_step 38 (.getfield 19) 3 41 := ⟨by decide +kernel, rfl⟩
theorem d_m_step_41 : xd b_m_step 41 (.iconst 5) 1 42 := ⟨by decide +kernel, rfl⟩
theorem d_m_step_42 : xd b_m_step 42 (.iload_n 2) 1 43 := ⟨by decide +kernel, rfl⟩
theorem d_m_step_43 : xd b_m_step 43 (.imul) 1 44 := ⟨by decide +kernel, rfl⟩
theorem d_m_step_44 : xd b_m_step 44 (.iload_n 3) 1 45 := ⟨by decide +kernel, rfl⟩
theorem d_m_step_45 : xd b_m_step 45 (.iadd) 1 46 := ⟨by decide +kernel, rfl⟩
theorem d_m_step_46 : xd b_m_step 46 (.iaload) 1 47 := ⟨by decide +kernel, rfl⟩
theorem d_m_step_47 : xd b_m_step 47 (.isub) 1 48 := ⟨by decide +kernel, rfl⟩
theorem d_m_step_48 : xd b_m_step 48 (.istore 4) 2 50 := ⟨by decide +kernel, rfl⟩
theorem d_m_step_50 : xd b_m_step 50 (.aload_n 0) 1 51 := ⟨by decide +kernel, rfl⟩
theorem d_m_step_51 : xd b_m_step 51 (.getfield 54) 3 54 := ⟨by decide +kernel, rfl⟩
theorem d_m_step_54 : xd b_m_step 54 (.iload_n 3) 1 55 := ⟨by decide +kernel, rfl⟩
theorem d_m_step_55 : xd b_m_step 55 (.aload_n 0) 1 56 := ⟨by decide +kernel, rfl⟩
theorem d_m_step_56 : xd b_m_step 56 (.getfield 16) 3 59 := ⟨by decide +kernel, rfl⟩
theorem d_m_step_59 : xd b_m_step 59 (.iconst 5) 1 60 := ⟨by decide +kernel, rfl⟩
theorem d_m_step_60 : xd b_m_step 60 (.iload_n 2) 1 61 := ⟨by decide +kernel, rfl⟩
theorem d_m_step_61 : xd b_m_step 61 (.imul) 1 62 := ⟨by decide +kernel, rfl⟩
theorem d_m_step_62 : xd b_m_step 62 (.iload_n 3) 1 63 := ⟨by decide +kernel, rfl⟩
theorem d_m_step_63 : xd b_m_step 63 (.iadd) 1 64 := ⟨by decide +kernel, rfl⟩
theorem d_m_step_64 : xd b_m_step 64 (.iaload) 1 65 := ⟨by decide +kernel, rfl⟩
theorem d_m_step_65 : xd b_m_step 65 (.iload 4) 2 67 := ⟨by decide +kernel, rfl⟩
theorem d_m_step_67 : xj b_m_step 67 (.ifCond .le 8) 3 70 (8) 75 := ⟨by decide +kernel, rfl, by decide⟩
theorem d_m_step_70 : xd b_m_step 70 (.iload 4) 2 72 := ⟨by decide +kernel, rfl⟩
theorem d_m_step_72 : xj b_m_step 72 (.goto 4) 3 75 (4) 76 := ⟨by decide +kernel, rfl, by decide⟩
theorem d_m_step_75 : xd b_m_step 75 (.iconst 0) 1 76 := ⟨by decide +kernel, rfl⟩
theorem d_m_step_76 : xd b_m_step 76 (.iadd) 1 77 := ⟨by decide +kernel, rfl⟩
theorem d_m_step_77 : xd b_m_step 77 (.iastore) 1 78 := ⟨by decide +kernel, rfl⟩
theorem d_m_step_78 : xd b_m_step 78 (.iinc 3 1) 3 81 := ⟨by decide +kernel, rfl⟩
theorem d_m_step_81 : xj b_m_step 81 (.goto (-59)) 3 84 (-59) 22 := ⟨by decide +kernel, rfl, by decide⟩
theorem d_m_step_84 : xd b_m_step 84 (.aload_n 0) 1 85 := ⟨by decide +kernel, rfl⟩
theorem d_m_step_85 : xd b_m_step 85 (.invokevirtual 90) 3 88 := ⟨by decide +kernel, rfl⟩
theorem d_m_step_88 : xd b_m_step 88 (.iinc 2 1) 3 91 := ⟨by decide +kernel, rfl⟩
theorem d_m_step_91 : xj b_m_step 91 (.goto (-79)) 3 94 (-79) 12 := ⟨by decide +kernel, rfl, by decide⟩
theorem d_m_step_94 : xd b_m_step 94 (.iinc 1 1) 3 97 := ⟨by decide +kernel, rfl⟩
theorem d_m_step_97 : xj b_m_step 97 (.goto (-95)) 3 100 (-95) 2 := ⟨by decide +kernel, rfl, by decide⟩
theorem d_m_step_100 : xd b_m_step 100 (.return_) 1 101 := ⟨by decide +kernel, rfl⟩
theorem d_m_isSame_0 : xd b_m_isSame 0 (.aload_n 0) 1 1 := ⟨by decide +kernel, rfl⟩
theorem d_m_isSame_1 : xd b_m_isSame 1 (.getfield 80) 3 4 := ⟨by decide +kernel, rfl⟩
theorem d_m_isSame_4 : xd b_m_isSame 4 (.aload_n 0) 1 5 := ⟨by decide +kernel, rfl⟩
theorem d_m_isSame_5 : xd b_m_isSame 5 (.getfield 87) 3 8 := ⟨by decide +kernel, rfl⟩
theorem d_m_isSame_8 : xj b_m_isSame 8 (.if_icmp .ne 7) 3 11 (7) 15 := ⟨by decide +kernel, rfl, by decide⟩
theorem d_m_isSame_11 : xd b_m_isSame 11 (.iconst 1) 1 12 := ⟨by decide +kernel, rfl⟩
theorem d_m_isSame_12 : xj b_m_isSame 12 (.goto 4) 3 15 (4) 16 := ⟨by decide +kernel, rfl, by decide⟩
theorem d_m_isSame_15 : xd b_m_isSame 15 (.iconst 0) 1 16 := ⟨by decide +kernel, rfl⟩
theorem d_m_isSame_16 : xd b_m_isSame 16 (.istore_n 1) 1 17 := ⟨by decide +kernel, rfl⟩
theorem d_m_isSame_17 : xd b_m_isSame 17 (.iconst 0) 1 18 := ⟨by decide +kernel, rfl⟩
theorem d_m_isSame_18 : xd b_m_isSame 18 (.istore_n 2) 1 19 := ⟨by decide +kernel, rfl⟩
theorem d_m_isSame_19 : xd b_m_isSame 19 (.iload_n 2) 1 20 := ⟨by decide +kernel, rfl⟩
theorem d_m_isSame_20 : xd b_m_isSame 20 (.aload_n 0) 1 21 := ⟨by decide +kernel, rfl⟩
theorem d_m_isSame_21 : xd b_m_isSame 21 (.getfield 80) 3 24 := ⟨by decide +kernel, rfl⟩
theorem d_m_isSame_24 : xj b_m_isSame 24 (.if_icmp .ge 66) 3 27 (66) 90 := ⟨by decide +kernel, rfl, by decide⟩
theorem d_m_isSame_27 : xd b_m_isSame 27 (.iload_n 1) 1 28 := ⟨by decide +kernel, rfl⟩
theorem d_m_isSame_28 : xj b_m_isSame 28 (.ifCond .eq 62) 3 31 (62) 90 := ⟨by decide +kernel, rfl, by decide⟩
theorem d_m_isSame_31 : xd b_m_isSame 31 (.iconst 0) 1 32 := ⟨by decide +kernel, rfl⟩
theorem d_m_isSame_32 : xd b_m_isSame 32 (.istore_n 3) 1 33 := ⟨by decide +kernel, rfl⟩
theorem d_m_isSame_33 : xd b_m_isSame 33 (.iconst 0) 1 34 := ⟨by decide +kernel, rfl⟩
theorem d_m_isSame_34 : xd b_m_isSame 34 (.istore 4) 2 36 := ⟨by decide +kernel, rfl⟩
theorem d_m_isSame_36 : xd b_m_isSame 36 (.iload 4) 2 38 := ⟨by decide +kernel, rfl⟩
theorem d_m_isSame_38 : xd b_m_isSame 38 (.aload_n 0) 1 39 := ⟨by decide +kernel, rfl⟩
theorem d_m_isSame_39 : xd b_m_isSame 39 (.getfield 87) 3 42 := ⟨by decide +kernel, rfl⟩
theorem d_m_isSame_42 : xj b_m_isSame 42 (.if_icmp .ge 40) 3 45 (40) 82 := ⟨by decide +kernel, rfl, by decide⟩
theorem d_m_isSame_45 : xd b_m_isSame 45 (.iload_n 3) 1 46 := ⟨by decide +kernel, rfl⟩
theorem d_m_isSame_46 : xj b_m_isSame 46 (.ifCond .ne 24) 3 49 (24) 70 := ⟨by decide +kernel, rfl, by decide⟩
theorem d_m_isSame_49 : xd b_m_isSame 49 (.aload_n 0) 1 50 := ⟨by decide +kernel, rfl⟩
theorem d_m_isSame_50 : xd b_m_isSame 50 (.getfield 36) 3 53 := ⟨by decide +kernel, rfl⟩
theorem d_m_isSame_53 : xd b_m_isSame 53 (.iconst 5) 1 54 := ⟨by decide +kernel, rfl⟩
theorem d_m_isSame_54 : xd b_m_isSame 54 (.iload_n 2) 1 55 := ⟨by decide +kernel, rfl⟩
theorem d_m_isSame_55 : xd b_m_isSame 55 (.imul) 1 56 := ⟨by decide +kernel, rfl⟩
theorem d_m_isSame_56 : xd b_m_isSame 56 (.aload_n 0) 1 57 := ⟨by decide +kernel, rfl⟩
theorem d_m_isSame_57 : xd b_m_isSame 57 (.getfield 39) 3 60 := ⟨by decide +kernel, rfl⟩
theorem d_m_isSame_60 : xd b_m_isSame 60 (.iconst 5) 1 61 := ⟨by decide +kernel, rfl⟩
theorem d_m_isSame_61 : xd b_m_isSame 61 (.iload 4) 2 63 := ⟨by decide +kernel, rfl⟩
theorem d_m_isSame_63 : xd b_m_isSame 63 (.imul) 1 64 := ⟨by decide +kernel, rfl⟩
theorem d_m_isSame_64 : xd b_m_isSame 64 (.invokestatic 83) 3 67 := ⟨by decide +kernel, rfl⟩
theorem d_m_isSame_67 : xj b_m_isSame 67 (.ifCond .eq 7) 3 70 (7) 74 := ⟨by decide +kernel, rfl, by decide⟩
theorem d_m_isSame_70 : xd b_m_isSame 70 (.iconst 1) 1 71 := ⟨by decide +kernel, rfl⟩
theorem d_m_isSame_71 : xj b_m_isSame 71 (.goto 4) 3 74 (4) 75 := ⟨by decide +kernel, rfl, by decide⟩
theorem d_m_isSame_74 : xd b_m_isSame 74 (.iconst 0) 1 75 := ⟨by decide +kernel, rfl⟩
theorem d_m_isSame_75 : xd b_m_isSame 75 (.istore_n 3) 1 76 := ⟨by decide +kernel, rfl⟩
theorem d_m_isSame_76 : xd b_m_isSame 76 (.iinc 4 1) 3 79 := ⟨by decide +kernel, rfl⟩
theorem d_m_isSame_79 : xj b_m_isSame 79 (.goto (-43)) 3 82 (-43) 36 := ⟨by decide +kernel, rfl, by decide⟩
theorem d_m_isSame_82 : xd b_m_isSame 82 (.iload_n 3) 1 83 := ⟨by decide +kernel, rfl⟩
theorem d_m_isSame_83 : xd b_m_isSame 83 (.istore_n 1) 1 84 := ⟨by decide +kernel, rfl⟩
theorem d_m_isSame_84 : xd b_m_isSame 84 (.iinc 2 1) 3 87 := ⟨by decide +kernel, rfl⟩
theorem d_m_isSame_87 : xj b_m_isSame 87 (.goto (-68)) 3 90 (-68) 19 := ⟨by decide +kernel, rfl, by decide⟩
theorem d_m_isSame_90 : xd b_m_isSame 90 (.iload_n 1) 1 91 := ⟨by decide +kernel, rfl⟩
theorem d_m_isSame_91 : xd b_m_isSame 91 (.ireturn) 1 92 := ⟨by decide +kernel, rfl⟩
theorem d_m_rounds_0 : xd b_m_rounds 0 (.aload_n 0) 1 1 := ⟨by decide +kernel, rfl⟩
theorem d_m_rounds_1 : xd b_m_rounds 1 (.aload_n 0) 1 2 := ⟨by decide +kernel, rfl⟩
theorem d_m_rounds_2 : xd b_m_rounds 2 (.getfield 60) 3 5 := ⟨by decide +kernel, rfl⟩
theorem d_m_rounds_5 : xd b_m_rounds 5 (.putfield 93) 3 8 := ⟨by decide +kernel, rfl⟩
theorem d_m_rounds_8 : xd b_m_rounds 8 (.aload_n 0) 1 9 := ⟨by decide +kernel, rfl⟩
theorem d_m_rounds_9 : xd b_m_rounds 9 (.iconst 0) 1 10 := ⟨by decide +kernel, rfl⟩
theorem d_m_rounds_10 : xd b_m_rounds 10 (.putfield 80) 3 13 := ⟨by decide +kernel, rfl⟩
theorem d_m_rounds_13 : xd b_m_rounds 13 (.iconst 0) 1 14 := ⟨by decide +kernel, rfl⟩
theorem d_m_rounds_14 : xd b_m_rounds 14 (.istore_n 1) 1 15 := ⟨by decide +kernel, rfl⟩
theorem d_m_rounds_15 : xd b_m_rounds 15 (.iload_n 1) 1 16 := ⟨by decide +kernel, rfl⟩
theorem d_m_rounds_16 : xd b_m_rounds 16 (.iconst 5) 1 17 := ⟨by decide +kernel, rfl⟩
theorem d_m_rounds_17 : xj b_m_rounds 17 (.if_icmp .ge 33) 3 20 (33) 50 := ⟨by decide +kernel, rfl, by decide⟩
theorem d_m_rounds_20 : xd b_m_rounds 20 (.aload_n 0) 1 21 := ⟨by decide +kernel, rfl⟩
theorem d_m_rounds_21 : xd b_m_rounds 21 (.getfield 54) 3 24 := ⟨by decide +kernel, rfl⟩
theorem d_m_rounds_24 : xd b_m_rounds 24 (.iload_n 1) 1 25 := ⟨by decide +kernel, rfl⟩
theorem d_m_rounds_25 : xd b_m_rounds 25 (.iload_n 1) 1 26 := ⟨by decide +kernel, rfl⟩
theorem d_m_rounds_26 : xd b_m_rounds 26 (.aload_n 0) 1 27 := ⟨by decide +kernel, rfl⟩
theorem d_m_rounds_27 : xd b_m_rounds 27 (.getfield 60) 3 30 := ⟨by decide +kernel, rfl⟩
theorem d_m_rounds_30 : xj b_m_rounds 30 (.if_icmp .ge 12) 3 33 (12) 42 := ⟨by decide +kernel, rfl, by decide⟩
theorem d_m_rounds_33 : xd b_m_rounds 33 (.aload_n 0) 1 34 := ⟨by decide +kernel, rfl⟩
theorem d_m_rounds_34 : xd b_m_rounds 34 (.getfield 13) 3 37 := ⟨by decide +kernel, rfl⟩
theorem d_m_rounds_37 : xd b_m_rounds 37 (.iload_n 1) 1 38 := ⟨by decide +kernel, rfl⟩
theorem d_m_rounds_38 : xd b_m_rounds 38 (.iaload) 1 39 := ⟨by decide +kernel, rfl⟩
theorem d_m_rounds_39 : xj b_m_rounds 39 (.goto 4) 3 42 (4) 43 := ⟨by decide +kernel, rfl, by decide⟩
theorem d_m_rounds_42 : xd b_m_rounds 42 (.iconst 0) 1 43 := ⟨by decide +kernel, rfl⟩
theorem d_m_rounds_43 : xd b_m_rounds 43 (.iastore) 1 44 := ⟨by decide +kernel, rfl⟩
theorem d_m_rounds_44 : xd b_m_rounds 44 (.iinc 1 1) 3 47 := ⟨by decide +kernel, rfl⟩
theorem d_m_rounds_47 : xj b_m_rounds 47 (.goto (-32)) 3 50 (-32) 15 := ⟨by decide +kernel, rfl, by decide⟩
theorem d_m_rounds_50 : xd b_m_rounds 50 (.aload_n 0) 1 51 := ⟨by decide +kernel, rfl⟩
theorem d_m_rounds_51 : xd b_m_rounds 51 (.invokevirtual 90) 3 54 := ⟨by decide +kernel, rfl⟩
theorem d_m_rounds_54 : xd b_m_rounds 54 (.iconst 0) 1 55 := ⟨by decide +kernel, rfl⟩
theorem d_m_rounds_55 : xd b_m_rounds 55 (.istore_n 1) 1 56 := ⟨by decide +kernel, rfl⟩
theorem d_m_rounds_56 : xd b_m_rounds 56 (.iconst 2) 1 57 := ⟨by decide +kernel, rfl⟩
theorem d_m_rounds_57 : xd b_m_rounds 57 (.istore_n 2) 1 58 := ⟨by decide +kernel, rfl⟩
theorem d_m_rounds_58 : xd b_m_rounds 58 (.iload_n 2) 1 59 := ⟨by decide +kernel, rfl⟩
theorem d_m_rounds_59 : xd b_m_rounds 59 (.iconst 2) 1 60 := ⟨by decide +kernel, rfl⟩
theorem d_m_rounds_60 : xj b_m_rounds 60 (.if_icmp .ne 167) 3 63 (167) 227 := ⟨by decide +kernel, rfl, by decide⟩
theorem d_m_rounds_63 : xd b_m_rounds 63 (.aload_n 0) 1 64 := ⟨by decide +kernel, rfl⟩
theorem d_m_rounds_64 : xd b_m_rounds 64 (.getfield 29) 3 67 := ⟨by decide +kernel, rfl⟩
theorem d_m_rounds_67 : xd b_m_rounds 67 (.iload_n 1) 1 68 := ⟨by decide +kernel, rfl⟩
theorem d_m_rounds_68 : xd b_m_rounds 68 (.aload_n 0) 1 69 := ⟨by decide +kernel, rfl⟩
theorem d_m_rounds_69 : xd b_m_rounds 69 (.getfield 80) 3 72 := ⟨by decide +kernel, rfl⟩
theorem d_m_rounds_72 : xd b_m_rounds 72 (.iastore) 1 73 := ⟨by decide +kernel, rfl⟩
theorem d_m_rounds_73 : xd b_m_rounds 73 (.iconst 0) 1 74 := ⟨by decide +kernel, rfl⟩
theorem d_m_rounds_74 : xd b_m_rounds 74 (.istore_n 3) 1 75 := ⟨by decide +kernel, rfl⟩
theorem d_m_rounds_75 : xd b_m_rounds 75 (.iload_n 3) 1 76 := ⟨by decide +kernel, rfl⟩
theorem d_m_rounds_76 : xd b_m_rounds 76 (.sipush 1000) 3 79 := ⟨by decide +kernel, rfl⟩
theorem d_m_rounds_79 : xj b_m_rounds 79 (.if_icmp .ge 41) 3 82 (41) 120 := ⟨by decide +kernel, rfl, by decide⟩
theorem d_m_rounds_82 : xd b_m_rounds 82 (.aload_n 0) 1 83 := ⟨by decide +kernel, rfl⟩
theorem d_m_rounds_83 : xd b_m_rounds 83 (.getfield 33) 3 86 := ⟨by decide +kernel, rfl⟩
theorem d_m_rounds_86 : xd b_m_rounds 86 (.sipush 1000) 3 89 := ⟨by decide +kernel, rfl⟩
theorem d_m_rounds_89 : xd b_m_rounds 89 (.iload_n 1) 1 90 := ⟨by decide +kernel, rfl⟩
theorem d_m_rounds_90 : xd b_m_rounds 90 (.imul) 1 91 := ⟨by decide +kernel, rfl⟩
theorem d_m_rounds_91 : xd b_m_rounds 91 (.iload_n 3) 1 92 := ⟨by decide +kernel, rfl⟩
theorem d_m_rounds_92 : xd b_m_rounds 92 (.iadd) 1 93 := ⟨by decide +kernel, rfl⟩
theorem d_m_rounds_93 : xd b_m_rounds 93 (.iload_n 3) 1 94 := ⟨by decide +kernel, rfl⟩
theorem d_m_rounds_94 : xd b_m_rounds 94 (.iconst 5) 1 95 := ⟨by decide +kernel, rfl⟩
theorem d_m_rounds_95 : xd b_m_rounds 95 (.aload_n 0) 1 96 := ⟨by decide +kernel, rfl⟩
theorem d_m_rounds_96 : xd b_m_rounds 96 (.getfield 80) 3 99 := ⟨by decide +kernel, rfl⟩
theorem d_m_rounds_99 : xd b_m_rounds 99 (.imul) 1 100 := ⟨by decide +kernel, rfl⟩
theorem d_m_rounds_100 : xj b_m_rounds 100 (.if_icmp .ge 12) 3 103 (12) 112 := ⟨by decide +kernel, rfl, by decide⟩
theorem d_m_rounds_103 : xd b_m_rounds 103 (.aload_n 0) 1 104 := ⟨by decide +kernel, rfl⟩
theorem d_m_rounds_104 : xd b_m_rounds 104 (.getfield 36) 3 107 := ⟨by decide +kernel, rfl⟩
theorem d_m_rounds_107 : xd b_m_rounds 107 (.iload_n 3) 1 108 := ⟨by decide +kernel, rfl⟩
theorem d_m_rounds_108 : xd b_m_rounds 108 (.iaload) 1 109 := ⟨by decide +kernel, rfl⟩
theorem d_m_rounds_109 : xj b_m_rounds 109 (.goto 4) 3 112 (4) 113 := ⟨by decide +kernel, rfl, by decide⟩
theorem d_m_rounds_112 : xd b_m_rounds 112 (.iconst 0) 1 113 := ⟨by decide +kernel, rfl⟩
theorem d_m_rounds_113 : xd b_m_rounds 113 (.iastore) 1 114 := ⟨by decide +kernel, rfl⟩
theorem d_m_rounds_114 : xd b_m_rounds 114 (.iinc 3 1) 3 117 := ⟨by decide +kernel, rfl⟩
theorem d_m_rounds_117 : xj b_m_rounds 117 (.goto (-42)) 3 120 (-42) 75 := ⟨by decide +kernel, rfl, by decide⟩
theorem d_m_rounds_120 : xd b_m_rounds 120 (.aload_n 0) 1 121 := ⟨by decide +kernel, rfl⟩
theorem d_m_rounds_121 : xd b_m_rounds 121 (.iload_n 1) 1 122 := ⟨by decide +kernel, rfl⟩
theorem d_m_rounds_122 : xd b_m_rounds 122 (.putfield 96) 3 125 := ⟨by decide +kernel, rfl⟩
theorem d_m_rounds_125 : xd b_m_rounds 125 (.aload_n 0) 1 126 := ⟨by decide +kernel, rfl⟩
theorem d_m_rounds_126 : xd b_m_rounds 126 (.invokevirtual 99) 3 129 := ⟨by decide +kernel, rfl⟩
theorem d_m_rounds_129 : xj b_m_rounds 129 (.ifCond .eq 8) 3 132 (8) 137 := ⟨by decide +kernel, rfl, by decide⟩
theorem d_m_rounds_132 : xd b_m_rounds 132 (.iconst 1) 1 133 := ⟨by decide +kernel, rfl⟩
theorem d_m_rounds_133 : xd b_m_rounds 133 (.istore_n 2) 1 134 := ⟨by decide +kernel, rfl⟩
theorem d_m_rounds_134 : xj b_m_rounds 134 (.goto (-76)) 3 137 (-76) 58 := ⟨by decide +kernel, rfl, by decide⟩
theorem d_m_rounds_137 : xd b_m_rounds 137 (.aload_n 0) 1 138 := ⟨by decide +kernel, rfl⟩
theorem d_m_rounds_138 : xd b_m_rounds 138 (.getfield 80) 3 141 := ⟨by decide +kernel, rfl⟩
theorem d_m_rounds_141 : xd b_m_rounds 141 (.sipush 200) 3 144 := ⟨by decide +kernel, rfl⟩
theorem d_m_rounds_144 : xj b_m_rounds 144 (.if_icmp .le 8) 3 147 (8) 152 := ⟨by decide +kernel, rfl, by decide⟩
theorem d_m_rounds_147 : xd b_m_rounds 147 (.iconst (-1)) 1 148 := ⟨by decide +kernel, rfl⟩
theorem d_m_rounds_148 : xd b_m_rounds 148 (.istore_n 2) 1 149 := ⟨by decide +kernel, rfl⟩
theorem d_m_rounds_149 : xj b_m_rounds 149 (.goto (-91)) 3 152 (-91) 58 := ⟨by decide +kernel, rfl, by decide⟩
theorem d_m_rounds_152 : xd b_m_rounds 152 (.iload_n 1) 1 153 := ⟨by decide +kernel, rfl⟩
theorem d_m_rounds_153 : xj b_m_rounds 153 (.ifCond .le 15) 3 156 (15) 168 := ⟨by decide +kernel, rfl, by decide⟩
theorem d_m_rounds_156 : xd b_m_rounds 156 (.aload_n 0) 1 157 := ⟨by decide +kernel, rfl⟩
theorem d_m_rounds_157 : xd b_m_rounds 157 (.invokevirtual 103) 3 160 := ⟨by decide +kernel, rfl⟩
theorem d_m_rounds_160 : xj b_m_rounds 160 (.ifCond .eq 8) 3 163 (8) 168 := ⟨by decide +kernel, rfl, by decide⟩
theorem d_m_rounds_163 : xd b_m_rounds 163 (.iconst 0) 1 164 := ⟨by decide +kernel, rfl⟩
theorem d_m_rounds_164 : xd b_m_rounds 164 (.istore_n 2) 1 165 := ⟨by decide +kernel, rfl⟩
theorem d_m_rounds_165 : xj b_m_rounds 165 (.goto (-107)) 3 168 (-107) 58 := ⟨by decide +kernel, rfl, by decide⟩
theorem d_m_rounds_168 : xd b_m_rounds 168 (.iload_n 1) 1 169 := ⟨by decide +kernel, rfl⟩
theorem d_m_rounds_169 : xd b_m_rounds 169 (.bipush 60) 2 171 := ⟨by decide +kernel, rfl⟩
theorem d_m_rounds_171 : xj b_m_rounds 171 (.if_icmp .ne 8) 3 174 (8) 179 := ⟨by decide +kernel, rfl, by decide⟩
theorem d_m_rounds_174 : xd b_m_rounds 174 (.iconst (-1)) 1 175 := ⟨by decide +kernel, rfl⟩
theorem d_m_rounds_175 : xd b_m_rounds 175 (.istore_n 2) 1 176 := ⟨by decide +kernel, rfl⟩
theorem d_m_rounds_176 : xj b_m_rounds 176 (.goto (-118)) 3 179 (-118) 58 := ⟨by decide +kernel, rfl, by decide⟩
theorem d_m_rounds_179 : xd b_m_rounds 179 (.iconst 0) 1 180 := ⟨by decide +kernel, rfl⟩
theorem d_m_rounds_180 : xd b_m_rounds 180 (.istore_n 3) 1 181 := ⟨by decide +kernel, rfl⟩
theorem d_m_rounds_181 : xd b_m_rounds 181 (.iload_n 3) 1 182 := ⟨by decide +kernel, rfl⟩
theorem d_m_rounds_182 : xd b_m_rounds 182 (.iconst 5) 1 183 := ⟨by decide +kernel, rfl⟩
theorem d_m_rounds_183 : xd b_m_rounds 183 (.aload_n 0) 1 184 := ⟨by decide +kernel, rfl⟩
theorem d_m_rounds_184 : xd b_m_rounds 184 (.getfield 80) 3 187 := ⟨by decide +kernel, rfl⟩
theorem d_m_rounds_187 : xd b_m_rounds 187 (.imul) 1 188 := ⟨by decide +kernel, rfl⟩
theorem d_m_rounds_188 : xj b_m_rounds 188 (.if_icmp .ge 21) 3 191 (21) 209 := ⟨by decide +kernel, rfl, by decide⟩
theorem d_m_rounds_191 : xd b_m_rounds 191 (.aload_n 0) 1 192 := ⟨by decide +kernel, rfl⟩
theorem d_m_rounds_192 : xd b_m_rounds 192 (.getfield 39) 3 195 := ⟨by decide +kernel, rfl⟩
theorem d_m_rounds_195 : xd b_m_rounds 195 (.iload_n 3) 1 196 := ⟨by decide +kernel, rfl⟩
theorem d_m_rounds_196 : xd b_m_rounds 196 (.aload_n 0) 1 197 := ⟨by decide +kernel, rfl⟩
theorem d_m_rounds_197 : xd b_m_rounds 197 (.getfield 36) 3 200 := ⟨by decide +kernel, rfl⟩
theorem d_m_rounds_200 : xd b_m_rounds 200 (.iload_n 3) 1 201 := ⟨by decide +kernel, rfl⟩
theorem d_m_rounds_201 : xd b_m_rounds 201 (.iaload) 1 202 := ⟨by decide +kernel, rfl⟩
theorem d_m_rounds_202 : xd b_m_rounds 202 (.iastore) 1 203 := ⟨by decide +kernel, rfl⟩
theorem d_m_rounds_203 : xd b_m_rounds 203 (.iinc 3 1) 3 206 := ⟨by decide +kernel, rfl⟩
theorem d_m_rounds_206 : xj b_m_rounds 206 (.goto (-25)) 3 209 (-25) 181 := ⟨by decide +kernel, rfl, by decide⟩
theorem d_m_rounds_209 : xd b_m_rounds 209 (.aload_n 0) 1 210 := ⟨by decide +kernel, rfl⟩
theorem d_m_rounds_210 : xd b_m_rounds 210 (.aload_n 0) 1 211 := ⟨by decide +kernel, rfl⟩
theorem d_m_rounds_211 : xd b_m_rounds 211 (.getfield 80) 3 214 := ⟨by decide +kernel, rfl⟩
theorem d_m_rounds_214 : xd b_m_rounds 214 (.putfield 87) 3 217 := ⟨by decide +kernel, rfl⟩
theorem d_m_rounds_217 : xd b_m_rounds 217 (.aload_n 0) 1 218 := ⟨by decide +kernel, rfl⟩
theorem d_m_rounds_218 : xd b_m_rounds 218 (.invokevirtual 106) 3 221 := ⟨by decide +kernel, rfl⟩
theorem d_m_rounds_221 : xd b_m_rounds 221 (.iinc 1 1) 3 224 := ⟨by decide +kernel, rfl⟩
theorem d_m_rounds_224 : xj b_m_rounds 224 (.goto (-166)) 3 227 (-166) 58 := ⟨by decide +kernel, rfl, by decide⟩
theorem d_m_rounds_227 : xd b_m_rounds 227 (.aload_n 0) 1 228 := ⟨by decide +kernel, rfl⟩
theorem d_m_rounds_228 : xd b_m_rounds 228 (.iload_n 2) 1 229 := ⟨by decide +kernel, rfl⟩
theorem d_m_rounds_229 : xd b_m_rounds 229 (.putfield 25) 3 232 := ⟨by decide +kernel, rfl⟩
theorem d_m_rounds_232 : xd b_m_rounds 232 (.aload_n 0) 1 233 := ⟨by decide +kernel, rfl⟩
theorem d_m_rounds_233 : xd b_m_rounds 233 (.getfield 25) 3 236 := ⟨by decide +kernel, rfl⟩
theorem d_m_rounds_236 : xd b_m_rounds 236 (.iconst 1) 1 237 := ⟨by decide +kernel, rfl⟩
theorem d_m_rounds_237 : xj b_m_rounds 237 (.if_icmp .ne 7) 3 240 (7) 244 := ⟨by decide +kernel, rfl, by decide⟩
theorem d_m_rounds_240 : xd b_m_rounds 240 (.aload_n 0) 1 241 := ⟨by decide +kernel, rfl⟩
theorem d_m_rounds_241 : xd b_m_rounds 241 (.invokevirtual 109) 3 244 := ⟨by decide +kernel, rfl⟩
theorem d_m_rounds_244 : xd b_m_rounds 244 (.aload_n 0) 1 245 := ⟨by decide +kernel, rfl⟩
theorem d_m_rounds_245 : xd b_m_rounds 245 (.getfield 25) 3 248 := ⟨by decide +kernel, rfl⟩
theorem d_m_rounds_248 : xd b_m_rounds 248 (.ireturn) 1 249 := ⟨by decide +kernel, rfl⟩
theorem d_m_tellRow_0 : xd b_m_tellRow 0 (.aload_n 0) 1 1 := ⟨by decide +kernel, rfl⟩
theorem d_m_tellRow_1 : xd b_m_tellRow 1 (.getfield 57) 3 4 := ⟨by decide +kernel, rfl⟩
theorem d_m_tellRow_4 : xd b_m_tellRow 4 (.astore_n 1) 1 5 := ⟨by decide +kernel, rfl⟩
theorem d_m_tellRow_5 : xd b_m_tellRow 5 (.iconst 0) 1 6 := ⟨by decide +kernel, rfl⟩
theorem d_m_tellRow_6 : xd b_m_tellRow 6 (.istore_n 2) 1 7 := ⟨by decide +kernel, rfl⟩
theorem d_m_tellRow_7 : xd b_m_tellRow 7 (.iload_n 2) 1 8 := ⟨by decide +kernel, rfl⟩
theorem d_m_tellRow_8 : xd b_m_tellRow 8 (.iconst 5) 1 9 := ⟨by decide +kernel, rfl⟩
theorem d_m_tellRow_9 : xj b_m_tellRow 9 (.if_icmp .ge 18) 3 12 (18) 27 := ⟨by decide +kernel, rfl, by decide⟩
theorem d_m_tellRow_12 : xd b_m_tellRow 12 (.aload_n 1) 1 13 := ⟨by decide +kernel, rfl⟩
theorem d_m_tellRow_13 : xd b_m_tellRow 13 (.iload_n 2) 1 14 := ⟨by decide +kernel, rfl⟩
theorem d_m_tellRow_14 : xd b_m_tellRow 14 (.aload_n 0) 1 15 := ⟨by decide +kernel, rfl⟩
theorem d_m_tellRow_15 : xd b_m_tellRow 15 (.getfield 7) 3 18 := ⟨by decide +kernel, rfl⟩
theorem d_m_tellRow_18 : xd b_m_tellRow 18 (.iload_n 2) 1 19 := ⟨by decide +kernel, rfl⟩
theorem d_m_tellRow_19 : xd b_m_tellRow 19 (.iaload) 1 20 := ⟨by decide +kernel, rfl⟩
theorem d_m_tellRow_20 : xd b_m_tellRow 20 (.iastore) 1 21 := ⟨by decide +kernel, rfl⟩
theorem d_m_tellRow_21 : xd b_m_tellRow 21 (.iinc 2 1) 3 24 := ⟨by decide +kernel, rfl⟩
theorem d_m_tellRow_24 : xj b_m_tellRow 24 (.goto (-17)) 3 27 (-17) 7 := ⟨by decide +kernel, rfl, by decide⟩
theorem d_m_tellRow_27 : xd b_m_tellRow 27 (.iconst 0) 1 28 := ⟨by decide +kernel, rfl⟩
theorem d_m_tellRow_28 : xd b_m_tellRow 28 (.istore_n 2) 1 29 := ⟨by decide +kernel, rfl⟩
theorem d_m_tellRow_29 : xd b_m_tellRow 29 (.iload_n 2) 1 30 := ⟨by decide +kernel, rfl⟩
theorem d_m_tellRow_30 : xd b_m_tellRow 30 (.aload_n 0) 1 31 := ⟨by decide +kernel, rfl⟩
theorem d_m_tellRow_31 : xd b_m_tellRow 31 (.getfield 96) 3 34 := ⟨by decide +kernel, rfl⟩
theorem d_m_tellRow_34 : xj b_m_tellRow 34 (.if_icmp .ge 86) 3 37 (86) 120 := ⟨by decide +kernel, rfl, by decide⟩
theorem d_m_tellRow_37 : xd b_m_tellRow 37 (.iconst 0) 1 38 := ⟨by decide +kernel, rfl⟩
theorem d_m_tellRow_38 : xd b_m_tellRow 38 (.istore_n 3) 1 39 := ⟨by decide +kernel, rfl⟩
theorem d_m_tellRow_39 : xd b_m_tellRow 39 (.aload_n 0) 1 40 := ⟨by decide +kernel, rfl⟩
theorem d_m_tellRow_40 : xd b_m_tellRow 40 (.aload_n 1) 1 41 := ⟨by decide +kernel, rfl⟩
theorem d_m_tellRow_41 : xd b_m_tellRow 41 (.iload_n 3) 1 42 := ⟨by decide +kernel, rfl⟩
theorem d_m_tellRow_42 : xd b_m_tellRow 42 (.aload_n 0) 1 43 := ⟨by decide +kernel, rfl⟩
theorem d_m_tellRow_43 : xd b_m_tellRow 43 (.getfield 96) 3 46 := ⟨by decide +kernel, rfl⟩
theorem d_m_tellRow_46 : xd b_m_tellRow 46 (.iload_n 2) 1 47 := ⟨by decide +kernel, rfl⟩
theorem d_m_tellRow_47 : xd b_m_tellRow 47 (.isub) 1 48 := ⟨by decide +kernel, rfl⟩
theorem d_m_tellRow_48 : xd b_m_tellRow 48 (.iconst 1) 1 49 := ⟨by decide +kernel, rfl⟩
theorem d_m_tellRow_49 : xd b_m_tellRow 49 (.isub) 1 50 := ⟨by decide +kernel, rfl⟩
theorem d_m_tellRow_50 : xd b_m_tellRow 50 (.invokevirtual 112) 3 53 := ⟨by decide +kernel, rfl⟩
theorem d_m_tellRow_53 : xj b_m_tellRow 53 (.ifCond .ne 9) 3 56 (9) 62 := ⟨by decide +kernel, rfl, by decide⟩
theorem d_m_tellRow_56 : xd b_m_tellRow 56 (.iinc 3 1) 3 59 := ⟨by decide +kernel, rfl⟩
theorem d_m_tellRow_59 : xj b_m_tellRow 59 (.goto (-20)) 3 62 (-20) 39 := ⟨by decide +kernel, rfl, by decide⟩
theorem d_m_tellRow_62 : xd b_m_tellRow 62 (.aload_n 0) 1 63 := ⟨by decide +kernel, rfl⟩
theorem d_m_tellRow_63 : xd b_m_tellRow 63 (.getfield 42) 3 66 := ⟨by decide +kernel, rfl⟩
theorem d_m_tellRow_66 : xd b_m_tellRow 66 (.iload_n 2) 1 67 := ⟨by decide +kernel, rfl⟩
theorem d_m_tellRow_67 : xd b_m_tellRow 67 (.iload_n 3) 1 68 := ⟨by decide +kernel, rfl⟩
theorem d_m_tellRow_68 : xd b_m_tellRow 68 (.iastore) 1 69 := ⟨by decide +kernel, rfl⟩
theorem d_m_tellRow_69 : xd b_m_tellRow 69 (.iconst 0) 1 70 := ⟨by decide +kernel, rfl⟩
theorem d_m_tellRow_70 : xd b_m_tellRow 70 (.istore 4) 2 72 := ⟨by decide +kernel, rfl⟩
theorem d_m_tellRow_72 : xd b_m_tellRow 72 (.iload 4) 2 74 := ⟨by decide +kernel, rfl⟩
theorem d_m_tellRow_74 : xd b_m_tellRow 74 (.iconst 5) 1 75 := ⟨by decide +kernel, rfl⟩
theorem d_m_tellRow_75 : xj b_m_tellRow 75 (.if_icmp .ge 39) 3 78 (39) 114 := ⟨by decide +kernel, rfl, by decide⟩
theorem d_m_tellRow_78 : xd b_m_tellRow 78 (.aload_n 1) 1 79 := ⟨by decide +kernel, rfl⟩
theorem d_m_tellRow_79 : xd b_m_tellRow 79 (.iload 4) 2 81 := ⟨by decide +kernel, rfl⟩
theorem d_m_tellRow_81 : xd b_m_tellRow 81 (.dup2) 1 82 := ⟨by decide +kernel, rfl⟩
theorem d_m_tellRow_82 : xd b_m_tellRow 82 (.iaload) 1 83 := ⟨by decide +kernel, rfl⟩
theorem d_m_tellRow_83 : xd b_m_tellRow 83 (.aload_n 0) 1 84 := ⟨by decide +kernel, rfl⟩
theorem d_m_tellRow_84 : xd b_m_tellRow 84 (.getfield 19) 3 87 := ⟨by decide +kernel, rfl⟩
theorem d_m_tellRow_87 : xd b_m_tellRow 87 (.iconst 5) 1 88 := ⟨by decide +kernel, rfl⟩
theorem d_m_tellRow_88 : xd b_m_tellRow 88 (.iload_n 3) 1 89 := ⟨by decide +kernel, rfl⟩
theorem d_m_tellRow_89 : xd b_m_tellRow 89 (.imul) 1 90 := ⟨by decide +kernel, rfl⟩
theorem d_m_tellRow_90 : xd b_m_tellRow 90 (.iload 4) 2 92 := ⟨by decide +kernel, rfl⟩
theorem d_m_tellRow_92 : xd b_m_tellRow 92 (.iadd) 1 93 := ⟨by decide +kernel, rfl⟩
theorem d_m_tellRow_93 : xd b_m_tellRow 93 (.iaload) 1 94 := ⟨by decide +kernel, rfl⟩
theorem d_m_tellRow_94 : xd b_m_tellRow 94 (.aload_n 0) 1 95 := ⟨by decide +kernel, rfl⟩
theorem d_m_tellRow_95 : xd b_m_tellRow 95 (.getfield 16) 3 98 := ⟨by decide +kernel, rfl⟩
theorem d_m_tellRow_98 : xd b_m_tellRow 98 (.iconst 5) 1 99 := ⟨by decide +kernel, rfl⟩
theorem d_m_tellRow_99 : xd b_m_tellRow 99 (.iload_n 3) 1 100 := ⟨by decide +kernel, rfl⟩
theorem d_m_tellRow_100 : xd b_m_tellRow 100 (.imul) 1 101 := ⟨by decide +kernel, rfl⟩
theorem d_m_tellRow_101 : xd b_m_tellRow 101 (.iload 4) 2 103 := ⟨by decide +kernel, rfl⟩
theorem d_m_tellRow_103 : xd b_m_tellRow 103 (.iadd) 1 104 := ⟨by decide +kernel, rfl⟩
theorem d_m_tellRow_104 : xd b_m_tellRow 104 (.iaload) 1 105 := ⟨by decide +kernel, rfl⟩
theorem d_m_tellRow_105 : xd b_m_tellRow 105 (.isub) 1 106 := ⟨by decide +kernel, rfl⟩
theorem d_m_tellRow_106 : xd b_m_tellRow 106 (.iadd) 1 107 := ⟨by decide +kernel, rfl⟩
theorem d_m_tellRow_107 : xd b_m_tellRow 107 (.iastore) 1 108 := ⟨by decide +kernel, rfl⟩
theorem d_m_tellRow_108 : xd b_m_tellRow 108 (.iinc 4 1) 3 111 := ⟨by decide +kernel, rfl⟩
theorem d_m_tellRow_111 : xj b_m_tellRow 111 (.goto (-39)) 3 114 (-39) 72 := ⟨by decide +kernel, rfl, by decide⟩
theorem d_m_tellRow_114 : xd b_m_tellRow 114 (.iinc 2 1) 3 117 := ⟨by decide +kernel, rfl⟩
theorem d_m_tellRow_117 : xj b_m_tellRow 117 (.goto (-88)) 3 120 (-88) 29 := ⟨by decide +kernel, rfl, by decide⟩
theorem d_m_tellRow_120 : xd b_m_tellRow 120 (.return_) 1 121 := ⟨by decide +kernel, rfl⟩
theorem d_m_canFire_0 : xd b_m_canFire 0 (.aload_n 0) 1 1 := ⟨by decide +kernel, rfl⟩
theorem d_m_canFire_1 : xd b_m_canFire 1 (.iload_n 3) 1 2 := ⟨by decide +kernel, rfl⟩
theorem d_m_canFire_2 : xd b_m_canFire 2 (.invokevirtual 73) 3 5 := ⟨by decide +kernel, rfl⟩
theorem d_m_canFire_5 : xj b_m_canFire 5 (.ifCond .eq 22) 3 8 (22) 27 := ⟨by decide +kernel, rfl, by decide⟩
theorem d_m_canFire_8 : xd b_m_canFire 8 (.aload_n 1) 1 9 := ⟨by decide +kernel, rfl⟩
theorem d_m_canFire_9 : xd b_m_canFire 9 (.iload_n 2) 1 10 := ⟨by decide +kernel, rfl⟩
theorem d_m_canFire_10 : xd b_m_canFire 10 (.aload_n 0) 1 11 := ⟨by decide +kernel, rfl⟩
theorem d_m_canFire_11 : xd b_m_canFire 11 (.getfield 16) 3 14 := ⟨by decide +kernel, rfl⟩
theorem d_m_canFire_14 : xd b_m_canFire 14 (.iconst 5) 1 15 := ⟨by decide +kernel, rfl⟩
theorem d_m_canFire_15 : xd b_m_canFire 15 (.iload_n 3) 1 16 := ⟨by decide +kernel, rfl⟩
theorem d_m_canFire_16 : xd b_m_canFire 16 (.imul) 1 17 := ⟨by decide +kernel, rfl⟩
theorem d_m_canFire_17 : xd b_m_canFire 17 (.invokestatic 83) 3 20 := ⟨by decide +kernel, rfl⟩
theorem d_m_canFire_20 : xj b_m_canFire 20 (.ifCond .eq 7) 3 23 (7) 27 := ⟨by decide +kernel, rfl, by decide⟩
theorem d_m_canFire_23 : xd b_m_canFire 23 (.iconst 1) 1 24 := ⟨by decide +kernel, rfl⟩
theorem d_m_canFire_24 : xj b_m_canFire 24 (.goto 4) 3 27 (4) 28 := ⟨by decide +kernel, rfl, by decide⟩
theorem d_m_canFire_27 : xd b_m_canFire 27 (.iconst 0) 1 28 := ⟨by decide +kernel, rfl⟩
theorem d_m_canFire_28 : xd b_m_canFire 28 (.ireturn) 1 29 := ⟨by decide +kernel, rfl⟩
theorem d_m_leads_0 : xd b_m_leads 0 (.aload_n 0) 1 1 := ⟨by decide +kernel, rfl⟩
theorem d_m_leads_1 : xd b_m_leads 1 (.aload_n 1) 1 2 := ⟨by decide +kernel, rfl⟩
theorem d_m_leads_2 : xd b_m_leads 2 (.iconst 0) 1 3 := ⟨by decide +kernel, rfl⟩
theorem d_m_leads_3 : xd b_m_leads 3 (.iload_n 2) 1 4 := ⟨by decide +kernel, rfl⟩
theorem d_m_leads_4 : xd b_m_leads 4 (.invokevirtual 116) 3 7 := ⟨by decide +kernel, rfl⟩
theorem d_m_leads_7 : xj b_m_leads 7 (.ifCond .ne 5) 3 10 (5) 12 := ⟨by decide +kernel, rfl, by decide⟩
theorem d_m_leads_10 : xd b_m_leads 10 (.iconst 0) 1 11 := ⟨by decide +kernel, rfl⟩
theorem d_m_leads_11 : xd b_m_leads 11 (.ireturn) 1 12 := ⟨by decide +kernel, rfl⟩
theorem d_m_leads_12 : xd b_m_leads 12 (.iconst 0) 1 13 := ⟨by decide +kernel, rfl⟩
theorem d_m_leads_13 : xd b_m_leads 13 (.istore 4) 2 15 := ⟨by decide +kernel, rfl⟩
theorem d_m_leads_15 : xd b_m_leads 15 (.iload 4) 2 17 := ⟨by decide +kernel, rfl⟩
theorem d_m_leads_17 : xd b_m_leads 17 (.iconst 5) 1 18 := ⟨by decide +kernel, rfl⟩
theorem d_m_leads_18 : xj b_m_leads 18 (.if_icmp .ge 44) 3 21 (44) 62 := ⟨by decide +kernel, rfl, by decide⟩
theorem d_m_leads_21 : xd b_m_leads 21 (.aload_n 0) 1 22 := ⟨by decide +kernel, rfl⟩
theorem d_m_leads_22 : xd b_m_leads 22 (.getfield 54) 3 25 := ⟨by decide +kernel, rfl⟩
theorem d_m_leads_25 : xd b_m_leads 25 (.iload 4) 2 27 := ⟨by decide +kernel, rfl⟩
theorem d_m_leads_27 : xd b_m_leads 27 (.aload_n 1) 1 28 := ⟨by decide +kernel, rfl⟩
theorem d_m_leads_28 : xd b_m_leads 28 (.iload 4) 2 30 := ⟨by decide +kernel, rfl⟩
theorem d_m_leads_30 : xd b_m_leads 30 (.iaload) 1 31 := ⟨by decide +kernel, rfl⟩
theorem d_m_leads_31 : xd b_m_leads 31 (.aload_n 0) 1 32 := ⟨by decide +kernel, rfl⟩
theorem d_m_leads_32 : xd b_m_leads 32 (.getfield 19) 3 35 := ⟨by decide +kernel, rfl⟩
theorem d_m_leads_35 : xd b_m_leads 35 (.iconst 5) 1 36 := ⟨by decide +kernel, rfl⟩
theorem d_m_leads_36 : xd b_m_leads 36 (.iload_n 2) 1 37 := ⟨by decide +kernel, rfl⟩
theorem d_m_leads_37 : xd b_m_leads 37 (.imul) 1 38 := ⟨by decide +kernel, rfl⟩
theorem d_m_leads_38 : xd b_m_leads 38 (.iload 4) 2 40 := ⟨by decide +kernel, rfl⟩
theorem d_m_leads_40 : xd b_m_leads 40 (.iadd) 1 41 := ⟨by decide +kernel, rfl⟩
theorem d_m_leads_41 : xd b_m_leads 41 (.iaload) 1 42 := ⟨by decide +kernel, rfl⟩
theorem d_m_leads_42 : xd b_m_leads 42 (.iadd) 1 43 := ⟨by decide +kernel, rfl⟩
theorem d_m_leads_43 : xd b_m_leads 43 (.aload_n 0) 1 44 := ⟨by decide +kernel, rfl⟩
theorem d_m_leads_44 : xd b_m_leads 44 (.getfield 16) 3 47 := ⟨by decide +kernel, rfl⟩
theorem d_m_leads_47 : xd b_m_leads 47 (.iconst 5) 1 48 := ⟨by decide +kernel, rfl⟩
theorem d_m_leads_48 : xd b_m_leads 48 (.iload_n 2) 1 49 := ⟨by decide +kernel, rfl⟩
theorem d_m_leads_49 : xd b_m_leads 49 (.imul) 1 50 := ⟨by decide +kernel, rfl⟩
theorem d_m_leads_50 : xd b_m_leads 50 (.iload 4) 2 52 := ⟨by decide +kernel, rfl⟩
theorem d_m_leads_52 : xd b_m_leads 52 (.iadd) 1 53 := ⟨by decide +kernel, rfl⟩
theorem d_m_leads_53 : xd b_m_leads 53 (.iaload) 1 54 := ⟨by decide +kernel, rfl⟩
theorem d_m_leads_54 : xd b_m_leads 54 (.isub) 1 55 := ⟨by decide +kernel, rfl⟩
theorem d_m_leads_55 : xd b_m_leads 55 (.iastore) 1 56 := ⟨by decide +kernel, rfl⟩
theorem d_m_leads_56 : xd b_m_leads 56 (.iinc 4 1) 3 59 := ⟨by decide +kernel, rfl⟩
theorem d_m_leads_59 : xj b_m_leads 59 (.goto (-44)) 3 62 (-44) 15 := ⟨by decide +kernel, rfl, by decide⟩
theorem d_m_leads_62 : xd b_m_leads 62 (.aload_n 0) 1 63 := ⟨by decide +kernel, rfl⟩
theorem d_m_leads_63 : xd b_m_leads 63 (.aload_n 0) 1 64 := ⟨by decide +kernel, rfl⟩
theorem d_m_leads_64 : xd b_m_leads 64 (.getfield 54) 3 67 := ⟨by decide +kernel, rfl⟩
theorem d_m_leads_67 : xd b_m_leads 67 (.iload_n 3) 1 68 := ⟨by decide +kernel, rfl⟩
theorem d_m_leads_68 : xd b_m_leads 68 (.invokevirtual 119) 3 71 := ⟨by decide +kernel, rfl⟩
theorem d_m_leads_71 : xd b_m_leads 71 (.ireturn) 1 72 := ⟨by decide +kernel, rfl⟩
theorem d_m_steps_0 : xd b_m_steps 0 (.aload_n 0) 1 1 := ⟨by decide +kernel, rfl⟩
theorem d_m_steps_1 : xd b_m_steps 1 (.getfield 25) 3 4 := ⟨by decide +kernel, rfl⟩
theorem d_m_steps_4 : xd b_m_steps 4 (.iconst 1) 1 5 := ⟨by decide +kernel, rfl⟩
theorem d_m_steps_5 : xj b_m_steps 5 (.if_icmp .ne 10) 3 8 (10) 15 := ⟨by decide +kernel, rfl, by decide⟩
theorem d_m_steps_8 : xd b_m_steps 8 (.aload_n 0) 1 9 := ⟨by decide +kernel, rfl⟩
theorem d_m_steps_9 : xd b_m_steps 9 (.getfield 96) 3 12 := ⟨by decide +kernel, rfl⟩
theorem d_m_steps_12 : xj b_m_steps 12 (.goto 4) 3 15 (4) 16 := ⟨by decide +kernel, rfl, by decide⟩
theorem d_m_steps_15 : xd b_m_steps 15 (.iconst (-1)) 1 16 := ⟨by decide +kernel, rfl⟩
theorem d_m_steps_16 : xd b_m_steps 16 (.ireturn) 1 17 := ⟨by decide +kernel, rfl⟩
theorem d_m_witness_0 : xd b_m_witness 0 (.aload_n 0) 1 1 := ⟨by decide +kernel, rfl⟩
theorem d_m_witness_1 : xd b_m_witness 1 (.getfield 25) 3 4 := ⟨by decide +kernel, rfl⟩
theorem d_m_witness_4 : xd b_m_witness 4 (.iconst 1) 1 5 := ⟨by decide +kernel, rfl⟩
theorem d_m_witness_5 : xj b_m_witness 5 (.if_icmp .ne 24) 3 8 (24) 29 := ⟨by decide +kernel, rfl, by decide⟩
theorem d_m_witness_8 : xd b_m_witness 8 (.iload_n 1) 1 9 := ⟨by decide +kernel, rfl⟩
theorem d_m_witness_9 : xj b_m_witness 9 (.ifCond .lt 20) 3 12 (20) 29 := ⟨by decide +kernel, rfl, by decide⟩
theorem d_m_witness_12 : xd b_m_witness 12 (.iload_n 1) 1 13 := ⟨by decide +kernel, rfl⟩
theorem d_m_witness_13 : xd b_m_witness 13 (.aload_n 0) 1 14 := ⟨by decide +kernel, rfl⟩
theorem d_m_witness_14 : xd b_m_witness 14 (.getfield 96) 3 17 := ⟨by decide +kernel, rfl⟩
theorem d_m_witness_17 : xj b_m_witness 17 (.if_icmp .ge 12) 3 20 (12) 29 := ⟨by decide +kernel, rfl, by decide⟩
theorem d_m_witness_20 : xd b_m_witness 20 (.aload_n 0) 1 21 := ⟨by decide +kernel, rfl⟩
theorem d_m_witness_21 : xd b_m_witness 21 (.getfield 42) 3 24 := ⟨by decide +kernel, rfl⟩
theorem d_m_witness_24 : xd b_m_witness 24 (.iload_n 1) 1 25 := ⟨by decide +kernel, rfl⟩
theorem d_m_witness_25 : xd b_m_witness 25 (.iaload) 1 26 := ⟨by decide +kernel, rfl⟩
theorem d_m_witness_26 : xj b_m_witness 26 (.goto 4) 3 29 (4) 30 := ⟨by decide +kernel, rfl, by decide⟩
theorem d_m_witness_29 : xd b_m_witness 29 (.iconst (-1)) 1 30 := ⟨by decide +kernel, rfl⟩
theorem d_m_witness_30 : xd b_m_witness 30 (.ireturn) 1 31 := ⟨by decide +kernel, rfl⟩
theorem d_m_least_0 : xd b_m_least 0 (.aload_n 0) 1 1 := ⟨by decide +kernel, rfl⟩
theorem d_m_least_1 : xd b_m_least 1 (.getfield 25) 3 4 := ⟨by decide +kernel, rfl⟩
theorem d_m_least_4 : xd b_m_least 4 (.iconst 2) 1 5 := ⟨by decide +kernel, rfl⟩
theorem d_m_least_5 : xj b_m_least 5 (.if_icmp .ge 24) 3 8 (24) 29 := ⟨by decide +kernel, rfl, by decide⟩
theorem d_m_least_8 : xd b_m_least 8 (.iload_n 1) 1 9 := ⟨by decide +kernel, rfl⟩
theorem d_m_least_9 : xj b_m_least 9 (.ifCond .lt 20) 3 12 (20) 29 := ⟨by decide +kernel, rfl, by decide⟩
theorem d_m_least_12 : xd b_m_least 12 (.iload_n 1) 1 13 := ⟨by decide +kernel, rfl⟩
theorem d_m_least_13 : xd b_m_least 13 (.aload_n 0) 1 14 := ⟨by decide +kernel, rfl⟩
theorem d_m_least_14 : xd b_m_least 14 (.getfield 96) 3 17 := ⟨by decide +kernel, rfl⟩
theorem d_m_least_17 : xj b_m_least 17 (.if_icmp .gt 12) 3 20 (12) 29 := ⟨by decide +kernel, rfl, by decide⟩
theorem d_m_least_20 : xd b_m_least 20 (.aload_n 0) 1 21 := ⟨by decide +kernel, rfl⟩
theorem d_m_least_21 : xd b_m_least 21 (.getfield 29) 3 24 := ⟨by decide +kernel, rfl⟩
theorem d_m_least_24 : xd b_m_least 24 (.iload_n 1) 1 25 := ⟨by decide +kernel, rfl⟩
theorem d_m_least_25 : xd b_m_least 25 (.iaload) 1 26 := ⟨by decide +kernel, rfl⟩
theorem d_m_least_26 : xj b_m_least 26 (.goto 4) 3 29 (4) 30 := ⟨by decide +kernel, rfl, by decide⟩
theorem d_m_least_29 : xd b_m_least 29 (.iconst (-1)) 1 30 := ⟨by decide +kernel, rfl⟩
theorem d_m_least_30 : xd b_m_least 30 (.ireturn) 1 31 := ⟨by decide +kernel, rfl⟩
theorem d_m_isOld_0 : xd b_m_isOld 0 (.iconst 0) 1 1 := ⟨by decide +kernel, rfl⟩
theorem d_m_isOld_1 : xd b_m_isOld 1 (.istore_n 2) 1 2 := ⟨by decide +kernel, rfl⟩
theorem d_m_isOld_2 : xd b_m_isOld 2 (.aload_n 0) 1 3 := ⟨by decide +kernel, rfl⟩
theorem d_m_isOld_3 : xd b_m_isOld 3 (.getfield 48) 3 6 := ⟨by decide +kernel, rfl⟩
theorem d_m_isOld_6 : xd b_m_isOld 6 (.iload_n 1) 1 7 := ⟨by decide +kernel, rfl⟩
theorem d_m_isOld_7 : xd b_m_isOld 7 (.iaload) 1 8 := ⟨by decide +kernel, rfl⟩
theorem d_m_isOld_8 : xd b_m_isOld 8 (.istore_n 3) 1 9 := ⟨by decide +kernel, rfl⟩
theorem d_m_isOld_9 : xd b_m_isOld 9 (.iload_n 3) 1 10 := ⟨by decide +kernel, rfl⟩
theorem d_m_isOld_10 : xj b_m_isOld 10 (.ifCond .lt 63) 3 13 (63) 73 := ⟨by decide +kernel, rfl, by decide⟩
theorem d_m_isOld_13 : xd b_m_isOld 13 (.iload_n 2) 1 14 := ⟨by decide +kernel, rfl⟩
theorem d_m_isOld_14 : xj b_m_isOld 14 (.ifCond .ne 43) 3 17 (43) 57 := ⟨by decide +kernel, rfl, by decide⟩
theorem d_m_isOld_17 : xd b_m_isOld 17 (.aload_n 0) 1 18 := ⟨by decide +kernel, rfl⟩
theorem d_m_isOld_18 : xd b_m_isOld 18 (.getfield 45) 3 21 := ⟨by decide +kernel, rfl⟩
theorem d_m_isOld_21 : xd b_m_isOld 21 (.iconst 5) 1 22 := ⟨by decide +kernel, rfl⟩
theorem d_m_isOld_22 : xd b_m_isOld 22 (.iload_n 3) 1 23 := ⟨by decide +kernel, rfl⟩
theorem d_m_isOld_23 : xd b_m_isOld 23 (.imul) 1 24 := ⟨by decide +kernel, rfl⟩
theorem d_m_isOld_24 : xd b_m_isOld 24 (.aload_n 0) 1 25 := ⟨by decide +kernel, rfl⟩
theorem d_m_isOld_25 : xd b_m_isOld 25 (.getfield 45) 3 28 := ⟨by decide +kernel, rfl⟩
theorem d_m_isOld_28 : xd b_m_isOld 28 (.iconst 5) 1 29 := ⟨by decide +kernel, rfl⟩
theorem d_m_isOld_29 : xd b_m_isOld 29 (.iload_n 1) 1 30 := ⟨by decide +kernel, rfl⟩
theorem d_m_isOld_30 : xd b_m_isOld 30 (.imul) 1 31 := ⟨by decide +kernel, rfl⟩
theorem d_m_isOld_31 : xd b_m_isOld 31 (.invokestatic 83) 3 34 := ⟨by decide +kernel, rfl⟩
theorem d_m_isOld_34 : xj b_m_isOld 34 (.ifCond .eq 27) 3 37 (27) 61 := ⟨by decide +kernel, rfl, by decide⟩
theorem d_m_isOld_37 : xd b_m_isOld 37 (.aload_n 0) 1 38 := ⟨by decide +kernel, rfl⟩
theorem d_m_isOld_38 : xd b_m_isOld 38 (.getfield 45) 3 41 := ⟨by decide +kernel, rfl⟩
theorem d_m_isOld_41 : xd b_m_isOld 41 (.iconst 5) 1 42 := ⟨by decide +kernel, rfl⟩
theorem d_m_isOld_42 : xd b_m_isOld 42 (.iload_n 1) 1 43 := ⟨by decide +kernel, rfl⟩
theorem d_m_isOld_43 : xd b_m_isOld 43 (.imul) 1 44 := ⟨by decide +kernel, rfl⟩
theorem d_m_isOld_44 : xd b_m_isOld 44 (.aload_n 0) 1 45 := ⟨by decide +kernel, rfl⟩
theorem d_m_isOld_45 : xd b_m_isOld 45 (.getfield 45) 3 48 := ⟨by decide +kernel, rfl⟩
theorem d_m_isOld_48 : xd b_m_isOld 48 (.iconst 5) 1 49 := ⟨by decide +kernel, rfl⟩
theorem d_m_isOld_49 : xd b_m_isOld 49 (.iload_n 3) 1 50 := ⟨by decide +kernel, rfl⟩
theorem d_m_isOld_50 : xd b_m_isOld 50 (.imul) 1 51 := ⟨by decide +kernel, rfl⟩
theorem d_m_isOld_51 : xd b_m_isOld 51 (.invokestatic 83) 3 54 := ⟨by decide +kernel, rfl⟩
theorem d_m_isOld_54 : xj b_m_isOld 54 (.ifCond .eq 7) 3 57 (7) 61 := ⟨by decide +kernel, rfl, by decide⟩
theorem d_m_isOld_57 : xd b_m_isOld 57 (.iconst 1) 1 58 := ⟨by decide +kernel, rfl⟩
theorem d_m_isOld_58 : xj b_m_isOld 58 (.goto 4) 3 61 (4) 62 := ⟨by decide +kernel, rfl, by decide⟩
theorem d_m_isOld_61 : xd b_m_isOld 61 (.iconst 0) 1 62 := ⟨by decide +kernel, rfl⟩
theorem d_m_isOld_62 : xd b_m_isOld 62 (.istore_n 2) 1 63 := ⟨by decide +kernel, rfl⟩
theorem d_m_isOld_63 : xd b_m_isOld 63 (.aload_n 0) 1 64 := ⟨by decide +kernel, rfl⟩
theorem d_m_isOld_64 : xd b_m_isOld 64 (.getfield 48) 3 67 := ⟨by decide +kernel, rfl⟩
theorem d_m_isOld_67 : xd b_m_isOld 67 (.iload_n 3) 1 68 := ⟨by decide +kernel, rfl⟩
theorem d_m_isOld_68 : xd b_m_isOld 68 (.iaload) 1 69 := ⟨by decide +kernel, rfl⟩
theorem d_m_isOld_69 : xd b_m_isOld 69 (.istore_n 3) 1 70 := ⟨by decide +kernel, rfl⟩
theorem d_m_isOld_70 : xj b_m_isOld 70 (.goto (-61)) 3 73 (-61) 9 := ⟨by decide +kernel, rfl, by decide⟩
theorem d_m_isOld_73 : xd b_m_isOld 73 (.iload_n 2) 1 74 := ⟨by decide +kernel, rfl⟩
theorem d_m_isOld_74 : xd b_m_isOld 74 (.ireturn) 1 75 := ⟨by decide +kernel, rfl⟩
theorem d_m_accelerate_0 : xd b_m_accelerate 0 (.iconst 1) 1 1 := ⟨by decide +kernel, rfl⟩
theorem d_m_accelerate_1 : xd b_m_accelerate 1 (.istore_n 2) 1 2 := ⟨by decide +kernel, rfl⟩
theorem d_m_accelerate_2 : xd b_m_accelerate 2 (.iload_n 2) 1 3 := ⟨by decide +kernel, rfl⟩
theorem d_m_accelerate_3 : xj b_m_accelerate 3 (.ifCond .eq 136) 3 6 (136) 139 := ⟨by decide +kernel, rfl, by decide⟩
theorem d_m_accelerate_6 : xd b_m_accelerate 6 (.iconst 0) 1 7 := ⟨by decide +kernel, rfl⟩
theorem d_m_accelerate_7 : xd b_m_accelerate 7 (.istore_n 2) 1 8 := ⟨by decide +kernel, rfl⟩
theorem d_m_accelerate_8 : xd b_m_accelerate 8 (.iload_n 1) 1 9 := ⟨by decide +kernel, rfl⟩
theorem d_m_accelerate_9 : xd b_m_accelerate 9 (.istore_n 3) 1 10 := ⟨by decide +kernel, rfl⟩
theorem d_m_accelerate_10 : xd b_m_accelerate 10 (.iload_n 3) 1 11 := ⟨by decide +kernel, rfl⟩
theorem d_m_accelerate_11 : xj b_m_accelerate 11 (.ifCond .lt 125) 3 14 (125) 136 := ⟨by decide +kernel, rfl, by decide⟩
theorem d_m_accelerate_14 : xd b_m_accelerate 14 (.aload_n 0) 1 15 := ⟨by decide +kernel, rfl⟩
theorem d_m_accelerate_15 : xd b_m_accelerate 15 (.getfield 54) 3 18 := ⟨by decide +kernel, rfl⟩
theorem d_m_accelerate_18 : xd b_m_accelerate 18 (.iconst 0) 1 19 := ⟨by decide +kernel, rfl⟩
theorem d_m_accelerate_19 : xd b_m_accelerate 19 (.aload_n 0) 1 20 := ⟨by decide +kernel, rfl⟩
theorem d_m_accelerate_20 : xd b_m_accelerate 20 (.getfield 45) 3 23 := ⟨by decide +kernel, rfl⟩
theorem d_m_accelerate_23 : xd b_m_accelerate 23 (.iconst 5) 1 24 := ⟨by decide +kernel, rfl⟩
theorem d_m_accelerate_24 : xd b_m_accelerate 24 (.iload_n 3) 1 25 := ⟨by decide +kernel, rfl⟩
theorem d_m_accelerate_25 : xd b_m_accelerate 25 (.imul) 1 26 := ⟨by decide +kernel, rfl⟩
theorem d_m_accelerate_26 : xd b_m_accelerate 26 (.invokestatic 83) 3 29 := ⟨by decide +kernel, rfl⟩
theorem d_m_accelerate_29 : xj b_m_accelerate 29 (.ifCond .eq 97) 3 32 (97) 126 := ⟨by decide +kernel, rfl, by decide⟩
theorem d_m_accelerate_32 : xd b_m_accelerate 32 (.iconst 0) 1 33 := ⟨by decide +kernel, rfl⟩
theorem d_m_accelerate_33 : xd b_m_accelerate 33 (.istore 4) 2 35 := ⟨by decide +kernel, rfl⟩
theorem d_m_accelerate_35 : xd b_m_accelerate 35 (.iload 4) 2 37 := ⟨by decide +kernel, rfl⟩
theorem d_m_accelerate_37 : xd b_m_accelerate 37 (.iconst 5) 1 38 := ⟨by decide +kernel, rfl⟩
theorem d_m_accelerate_38 : xj b_m_accelerate 38 (.if_icmp .ge 88) 3 41 (88) 126 := ⟨by decide +kernel, rfl, by decide⟩
theorem d_m_accelerate_41 : xd b_m_accelerate 41 (.aload_n 0) 1 42 := ⟨by decide +kernel, rfl⟩
theorem d_m_accelerate_42 : xd b_m_accelerate 42 (.getfield 54) 3 45 := ⟨by decide +kernel, rfl⟩
theorem d_m_accelerate_45 : xd b_m_accelerate 45 (.iload 4) 2 47 := ⟨by decide +kernel, rfl⟩
theorem d_m_accelerate_47 : xd b_m_accelerate 47 (.iaload) 1 48 := ⟨by decide +kernel, rfl⟩
theorem d_m_accelerate_48 : xd b_m_accelerate 48 (.aload_n 0) 1 49 := ⟨by decide +kernel, rfl⟩
theorem d_m_accelerate_49 : xd b_m_accelerate 49 (.getfield 45) 3 52 := ⟨by decide +kernel, rfl⟩
theorem d_m_accelerate_52 : xd b_m_accelerate 52 (.iconst 5) 1 53 := ⟨by decide +kernel, rfl⟩
theorem d_m_accelerate_53 : xd b_m_accelerate 53 (.iload_n 3) 1 54 := ⟨by decide +kernel, rfl⟩
theorem d_m_accelerate_54 : xd b_m_accelerate 54 (.imul) 1 55 := ⟨by decide +kernel, rfl⟩
theorem d_m_accelerate_55 : xd b_m_accelerate 55 (.iload 4) 2 57 := ⟨by decide +kernel, rfl⟩
theorem d_m_accelerate_57 : xd b_m_accelerate 57 (.iadd) 1 58 := ⟨by decide +kernel, rfl⟩
theorem d_m_accelerate_58 : xd b_m_accelerate 58 (.iaload) 1 59 := ⟨by decide +kernel, rfl⟩
theorem d_m_accelerate_59 : xj b_m_accelerate 59 (.if_icmp .le 19) 3 62 (19) 78 := ⟨by decide +kernel, rfl, by decide⟩
theorem d_m_accelerate_62 : xd b_m_accelerate 62 (.aload_n 0) 1 63 := ⟨by decide +kernel, rfl⟩
theorem d_m_accelerate_63 : xd b_m_accelerate 63 (.getfield 54) 3 66 := ⟨by decide +kernel, rfl⟩
theorem d_m_accelerate_66 : xd b_m_accelerate 66 (.iload 4) 2 68 := ⟨by decide +kernel, rfl⟩
theorem d_m_accelerate_68 : xd b_m_accelerate 68 (.iaload) 1 69 := ⟨by decide +kernel, rfl⟩
theorem d_m_accelerate_69 : xd b_m_accelerate 69 (.ldc 123) 2 71 := ⟨by decide +kernel, rfl⟩
theorem d_m_accelerate_71 : xj b_m_accelerate 71 (.if_icmp .ge 7) 3 74 (7) 78 := ⟨by decide +kernel, rfl, by decide⟩
theorem d_m_accelerate_74 : xd b_m_accelerate 74 (.iconst 1) 1 75 := ⟨by decide +kernel, rfl⟩
theorem d_m_accelerate_75 : xj b_m_accelerate 75 (.goto 4) 3 78 (4) 79 := ⟨by decide +kernel, rfl, by decide⟩
theorem d_m_accelerate_78 : xd b_m_accelerate 78 (.iconst 0) 1 79 := ⟨by decide +kernel, rfl⟩
theorem d_m_accelerate_79 : xd b_m_accelerate 79 (.istore 5) 2 81 := ⟨by decide +kernel, rfl⟩
theorem d_m_accelerate_81 : xd b_m_accelerate 81 (.aload_n 0) 1 82 := ⟨by decide +kernel, rfl⟩
theorem d_m_accelerate_82 : xd b_m_accelerate 82 (.getfield 54) 3 85 := ⟨by decide +kernel, rfl⟩
theorem d_m_accelerate_85 : xd b_m_accelerate 85 (.iload 4) 2 87 := ⟨by decide +kernel, rfl⟩
theorem d_m_accelerate_87 : xd b_m_accelerate 87 (.iload 5) 2 89 := ⟨by decide +kernel, rfl⟩
theorem d_m_accelerate_89 : xj b_m_accelerate 89 (.ifCond .eq 8) 3 92 (8) 97 := ⟨by decide +kernel, rfl, by decide⟩
theorem d_m_accelerate_92 : xd b_m_accelerate 92 (.ldc 123) 2 94 := ⟨by decide +kernel, rfl⟩
theorem d_m_accelerate_94 : xj b_m_accelerate 94 (.goto 10) 3 97 (10) 104 := ⟨by decide +kernel, rfl, by decide⟩
theorem d_m_accelerate_97 : xd b_m_accelerate 97 (.aload_n 0) 1 98 := ⟨by decide +kernel, rfl⟩
theorem d_m_accelerate_98 : xd b_m_accelerate 98 (.getfield 54) 3 101 := ⟨by decide +kernel, rfl⟩
theorem d_m_accelerate_101 : xd b_m_accelerate 101 (.iload 4) 2 103 := ⟨by decide +kernel, rfl⟩
theorem d_m_accelerate_103 : xd b_m_accelerate 103 (.iaload) 1 104 := ⟨by decide +kernel, rfl⟩
theorem d_m_accelerate_104 : xd b_m_accelerate 104 (.iastore) 1 105 := ⟨by decide +kernel, rfl⟩
theorem d_m_accelerate_105 : xd b_m_accelerate 105 (.iload_n 2) 1 106 := ⟨by decide +kernel, rfl⟩
theorem d_m_accelerate_106 : xj b_m_accelerate 106 (.ifCond .ne 8) 3 109 (8) 114 := ⟨by decide +kernel, rfl, by decide⟩
theorem d_m_accelerate_109 : xd b_m_accelerate 109 (.iload 5) 2 111 := ⟨by decide +kernel, rfl⟩
theorem d_m_accelerate_111 : xj b_m_accelerate 111 (.ifCond .eq 7) 3 114 (7) 118 := ⟨by decide +kernel, rfl, by decide⟩
theorem d_m_accelerate_114 : xd b_m_accelerate 114 (.iconst 1) 1 115 := ⟨by decide +kernel, rfl⟩
theorem d_m_accelerate_115 : xj b_m_accelerate 115 (.goto 4) 3 118 (4) 119 := ⟨by decide +kernel, rfl, by decide⟩
theorem d_m_accelerate_118 : xd b_m_accelerate 118 (.iconst 0) 1 119 := ⟨by decide +kernel, rfl⟩
theorem d_m_accelerate_119 : xd b_m_accelerate 119 (.istore_n 2) 1 120 := ⟨by decide +kernel, rfl⟩
theorem d_m_accelerate_120 : xd b_m_accelerate 120 (.iinc 4 1) 3 123 := ⟨by decide +kernel, rfl⟩
theorem d_m_accelerate_123 : xj b_m_accelerate 123 (.goto (-88)) 3 126 (-88) 35 := ⟨by decide +kernel, rfl, by decide⟩
theorem d_m_accelerate_126 : xd b_m_accelerate 126 (.aload_n 0) 1 127 := ⟨by decide +kernel, rfl⟩
theorem d_m_accelerate_127 : xd b_m_accelerate 127 (.getfield 48) 3 130 := ⟨by decide +kernel, rfl⟩
theorem d_m_accelerate_130 : xd b_m_accelerate 130 (.iload_n 3) 1 131 := ⟨by decide +kernel, rfl⟩
theorem d_m_accelerate_131 : xd b_m_accelerate 131 (.iaload) 1 132 := ⟨by decide +kernel, rfl⟩
theorem d_m_accelerate_132 : xd b_m_accelerate 132 (.istore_n 3) 1 133 := ⟨by decide +kernel, rfl⟩
theorem d_m_accelerate_133 : xj b_m_accelerate 133 (.goto (-123)) 3 136 (-123) 10 := ⟨by decide +kernel, rfl, by decide⟩
theorem d_m_accelerate_136 : xj b_m_accelerate 136 (.goto (-134)) 3 139 (-134) 2 := ⟨by decide +kernel, rfl, by decide⟩
theorem d_m_accelerate_139 : xd b_m_accelerate 139 (.return_) 1 140 := ⟨by decide +kernel, rfl⟩
theorem d_m_grow_0 : xd b_m_grow 0 (.aload_n 0) 1 1 := ⟨by decide +kernel, rfl⟩
theorem d_m_grow_1 : xd b_m_grow 1 (.iconst 0) 1 2 := ⟨by decide +kernel, rfl⟩
theorem d_m_grow_2 : xd b_m_grow 2 (.putfield 124) 3 5 := ⟨by decide +kernel, rfl⟩
theorem d_m_grow_5 : xd b_m_grow 5 (.aload_n 0) 1 6 := ⟨by decide +kernel, rfl⟩
theorem d_m_grow_6 : xd b_m_grow 6 (.iconst 1) 1 7 := ⟨by decide +kernel, rfl⟩
theorem d_m_grow_7 : xd b_m_grow 7 (.putfield 128) 3 10 := ⟨by decide +kernel, rfl⟩
theorem d_m_grow_10 : xd b_m_grow 10 (.aload_n 0) 1 11 := ⟨by decide +kernel, rfl⟩
theorem d_m_grow_11 : xd b_m_grow 11 (.getfield 48) 3 14 := ⟨by decide +kernel, rfl⟩
theorem d_m_grow_14 : xd b_m_grow 14 (.iconst 0) 1 15 := ⟨by decide +kernel, rfl⟩
theorem d_m_grow_15 : xd b_m_grow 15 (.iconst (-1)) 1 16 := ⟨by decide +kernel, rfl⟩
theorem d_m_grow_16 : xd b_m_grow 16 (.iastore) 1 17 := ⟨by decide +kernel, rfl⟩
theorem d_m_grow_17 : xd b_m_grow 17 (.iconst 0) 1 18 := ⟨by decide +kernel, rfl⟩
theorem d_m_grow_18 : xd b_m_grow 18 (.istore_n 1) 1 19 := ⟨by decide +kernel, rfl⟩
theorem d_m_grow_19 : xd b_m_grow 19 (.iload_n 1) 1 20 := ⟨by decide +kernel, rfl⟩
theorem d_m_grow_20 : xd b_m_grow 20 (.iconst 5) 1 21 := ⟨by decide +kernel, rfl⟩
theorem d_m_grow_21 : xj b_m_grow 21 (.if_icmp .ge 21) 3 24 (21) 42 := ⟨by decide +kernel, rfl, by decide⟩
theorem d_m_grow_24 : xd b_m_grow 24 (.aload_n 0) 1 25 := ⟨by decide +kernel, rfl⟩
theorem d_m_grow_25 : xd b_m_grow 25 (.getfield 45) 3 28 := ⟨by decide +kernel, rfl⟩
theorem d_m_grow_28 : xd b_m_grow 28 (.iload_n 1) 1 29 := ⟨by decide +kernel, rfl⟩
theorem d_m_grow_29 : xd b_m_grow 29 (.aload_n 0) 1 30 := ⟨by decide +kernel, rfl⟩
theorem d_m_grow_30 : xd b_m_grow 30 (.getfield 7) 3 33 := ⟨by decide +kernel, rfl⟩
theorem d_m_grow_33 : xd b_m_grow 33 (.iload_n 1) 1 34 := ⟨by decide +kernel, rfl⟩
theorem d_m_grow_34 : xd b_m_grow 34 (.iaload) 1 35 := ⟨by decide +kernel, rfl⟩
theorem d_m_grow_35 : xd b_m_grow 35 (.iastore) 1 36 := ⟨by decide +kernel, rfl⟩
theorem d_m_grow_36 : xd b_m_grow 36 (.iinc 1 1) 3 39 := ⟨by decide +kernel, rfl⟩
theorem d_m_grow_39 : xj b_m_grow 39 (.goto (-20)) 3 42 (-20) 19 := ⟨by decide +kernel, rfl, by decide⟩
theorem d_m_grow_42 : xd b_m_grow 42 (.iconst 0) 1 43 := ⟨by decide +kernel, rfl⟩
theorem d_m_grow_43 : xd b_m_grow 43 (.istore_n 1) 1 44 := ⟨by decide +kernel, rfl⟩
theorem d_m_grow_44 : xd b_m_grow 44 (.iload_n 1) 1 45 := ⟨by decide +kernel, rfl⟩
theorem d_m_grow_45 : xd b_m_grow 45 (.aload_n 0) 1 46 := ⟨by decide +kernel, rfl⟩
theorem d_m_grow_46 : xd b_m_grow 46 (.getfield 128) 3 49 := ⟨by decide +kernel, rfl⟩
theorem d_m_grow_49 : xj b_m_grow 49 (.if_icmp .ge 192) 3 52 (192) 241 := ⟨by decide +kernel, rfl, by decide⟩
theorem d_m_grow_52 : xd b_m_grow 52 (.aload_n 0) 1 53 := ⟨by decide +kernel, rfl⟩
theorem d_m_grow_53 : xd b_m_grow 53 (.getfield 128) 3 56 := ⟨by decide +kernel, rfl⟩
theorem d_m_grow_56 : xd b_m_grow 56 (.sipush 1000) 3 59 := ⟨by decide +kernel, rfl⟩
theorem d_m_grow_59 : xj b_m_grow 59 (.if_icmp .gt 182) 3 62 (182) 241 := ⟨by decide +kernel, rfl, by decide⟩
theorem d_m_grow_62 : xd b_m_grow 62 (.iconst 0) 1 63 := ⟨by decide +kernel, rfl⟩
theorem d_m_grow_63 : xd b_m_grow 63 (.istore_n 2) 1 64 := ⟨by decide +kernel, rfl⟩
theorem d_m_grow_64 : xd b_m_grow 64 (.iload_n 2) 1 65 := ⟨by decide +kernel, rfl⟩
theorem d_m_grow_65 : xd b_m_grow 65 (.aload_n 0) 1 66 := ⟨by decide +kernel, rfl⟩
theorem d_m_grow_66 : xd b_m_grow 66 (.getfield 63) 3 69 := ⟨by decide +kernel, rfl⟩
theorem d_m_grow_69 : xj b_m_grow 69 (.if_icmp .ge 166) 3 72 (166) 235 := ⟨by decide +kernel, rfl, by decide⟩
theorem d_m_grow_72 : xd b_m_grow 72 (.aload_n 0) 1 73 := ⟨by decide +kernel, rfl⟩
theorem d_m_grow_73 : xd b_m_grow 73 (.iload_n 1) 1 74 := ⟨by decide +kernel, rfl⟩
theorem d_m_grow_74 : xd b_m_grow 74 (.invokevirtual 131) 3 77 := ⟨by decide +kernel, rfl⟩
theorem d_m_grow_77 : xj b_m_grow 77 (.ifCond .ne 158) 3 80 (158) 235 := ⟨by decide +kernel, rfl, by decide⟩
theorem d_m_grow_80 : xd b_m_grow 80 (.aload_n 0) 1 81 := ⟨by decide +kernel, rfl⟩
theorem d_m_grow_81 : xd b_m_grow 81 (.getfield 128) 3 84 := ⟨by decide +kernel, rfl⟩
theorem d_m_grow_84 : xd b_m_grow 84 (.sipush 1000) 3 87 := ⟨by decide +kernel, rfl⟩
theorem d_m_grow_87 : xj b_m_grow 87 (.if_icmp .gt 148) 3 90 (148) 235 := ⟨by decide +kernel, rfl, by decide⟩
theorem d_m_grow_90 : xd b_m_grow 90 (.aload_n 0) 1 91 := ⟨by decide +kernel, rfl⟩
theorem d_m_grow_91 : xd b_m_grow 91 (.aload_n 0) 1 92 := ⟨by decide +kernel, rfl⟩
theorem d_m_grow_92 : xd b_m_grow 92 (.getfield 45) 3 95 := ⟨by decide +kernel, rfl⟩
theorem d_m_grow_95 : xd b_m_grow 95 (.iconst 5) 1 96 := ⟨by decide +kernel, rfl⟩
theorem d_m_grow_96 : xd b_m_grow 96 (.iload_n 1) 1 97 := ⟨by decide +kernel, rfl⟩
theorem d_m_grow_97 : xd b_m_grow 97 (.imul) 1 98 := ⟨by decide +kernel, rfl⟩
theorem d_m_grow_98 : xd b_m_grow 98 (.iload_n 2) 1 99 := ⟨by decide +kernel, rfl⟩
theorem d_m_grow_99 : xd b_m_grow 99 (.invokevirtual 116) 3 102 := ⟨by decide +kernel, rfl⟩
theorem d_m_grow_102 : xj b_m_grow 102 (.ifCond .eq 127) 3 105 (127) 229 := ⟨by decide +kernel, rfl, by decide⟩
theorem d_m_grow_105 : xd b_m_grow 105 (.iconst 0) 1 106 := ⟨by decide +kernel, rfl⟩
theorem d_m_grow_106 : xd b_m_grow 106 (.istore_n 3) 1 107 := ⟨by decide +kernel, rfl⟩
theorem d_m_grow_107 : xd b_m_grow 107 (.iload_n 3) 1 108 := ⟨by decide +kernel, rfl⟩
theorem d_m_grow_108 : xd b_m_grow 108 (.iconst 5) 1 109 := ⟨by decide +kernel, rfl⟩
theorem d_m_grow_109 : xj b_m_grow 109 (.if_icmp .ge 63) 3 112 (63) 172 := ⟨by decide +kernel, rfl, by decide⟩
theorem d_m_grow_112 : xd b_m_grow 112 (.aload_n 0) 1 113 := ⟨by decide +kernel, rfl⟩
theorem d_m_grow_113 : xd b_m_grow 113 (.getfield 45) 3 116 := ⟨by decide +kernel, rfl⟩
theorem d_m_grow_116 : xd b_m_grow 116 (.iconst 5) 1 117 := ⟨by decide +kernel, rfl⟩
theorem d_m_grow_117 : xd b_m_grow 117 (.iload_n 1) 1 118 := ⟨by decide +kernel, rfl⟩
theorem d_m_grow_118 : xd b_m_grow 118 (.imul) 1 119 := ⟨by decide +kernel, rfl⟩
theorem d_m_grow_119 : xd b_m_grow 119 (.iload_n 3) 1 120 := ⟨by decide +kernel, rfl⟩
theorem d_m_grow_120 : xd b_m_grow 120 (.iadd) 1 121 := ⟨by decide +kernel, rfl⟩
theorem d_m_grow_121 : xd b_m_grow 121 (.iaload) 1 122 := ⟨by decide +kernel, rfl⟩
theorem d_m_grow_122 : xd b_m_grow 122 (.istore 4) 2 124 := ⟨by decide +kernel, rfl⟩
theorem d_m_grow_124 : xd b_m_grow 124 (.aload_n 0) 1 125 := ⟨by decide +kernel, rfl⟩
theorem d_m_grow_125 : xd b_m_grow 125 (.getfield 54) 3 128 := ⟨by decide +kernel, rfl⟩
theorem d_m_grow_128 : xd b_m_grow 128 (.iload_n 3) 1 129 := ⟨by decide +kernel, rfl⟩
theorem d_m_grow_129 : xd b_m_grow 129 (.iload 4) 2 131 := ⟨by decide +kernel, rfl⟩
theorem d_m_grow_131 : xd b_m_grow 131 (.ldc 123) 2 133 := ⟨by decide +kernel, rfl⟩
theorem d_m_grow_133 : xj b_m_grow 133 (.if_icmp .ne 8) 3 136 (8) 141 := ⟨by decide +kernel, rfl, by decide⟩
theorem d_m_grow_136 : xd b_m_grow 136 (.ldc 123) 2 138 := ⟨by decide +kernel, rfl⟩
theorem d_m_grow_138 : xj b_m_grow 138 (.goto 27) 3 141 (27) 165 := ⟨by decide +kernel, rfl, by decide⟩
theorem d_m_grow_141 : xd b_m_grow 141 (.iload 4) 2 143 := ⟨by decide +kernel, rfl⟩
theorem d_m_grow_143 : xd b_m_grow 143 (.aload_n 0) 1 144 := ⟨by decide +kernel, rfl⟩
theorem d_m_grow_144 : xd b_m_grow 144 (.getfield 19) 3 147 := ⟨by decide +kernel, rfl⟩
theorem d_m_grow_147 : xd b_m_grow 147 (.iconst 5) 1 148 := ⟨by decide +kernel, rfl⟩
theorem d_m_grow_148 : xd b_m_grow 148 (.iload_n 2) 1 149 := ⟨by decide +kernel, rfl⟩
theorem d_m_grow_149 : xd b_m_grow 149 (.imul) 1 150 := ⟨by decide +kernel, rfl⟩
theorem d_m_grow_150 : xd b_m_grow 150 (.iload_n 3) 1 151 := ⟨by decide +kernel, rfl⟩
theorem d_m_grow_151 : xd b_m_grow 151 (.iadd) 1 152 := ⟨by decide +kernel, rfl⟩
theorem d_m_grow_152 : xd b_m_grow 152 (.iaload) 1 153 := ⟨by decide +kernel, rfl⟩
theorem d_m_grow_153 : xd b_m_grow 153 (.iadd) 1 154 := ⟨by decide +kernel, rfl⟩
theorem d_m_grow_154 : xd b_m_grow 154 (.aload_n 0) 1 155 := ⟨by decide +kernel, rfl⟩
theorem d_m_grow_155 : xd b_m_grow 155 (.getfield 16) 3 158 := ⟨by decide +kernel, rfl⟩
theorem d_m_grow_158 : xd b_m_grow 158 (.iconst 5) 1 159 := ⟨by decide +kernel, rfl⟩
theorem d_m_grow_159 : xd b_m_grow 159 (.iload_n 2) 1 160 := ⟨by decide +kernel, rfl⟩
theorem d_m_grow_160 : xd b_m_grow 160 (.imul) 1 161 := ⟨by decide +kernel, rfl⟩
theorem d_m_grow_161 : xd b_m_grow 161 (.iload_n 3) 1 162 := ⟨by decide +kernel, rfl⟩
theorem d_m_grow_162 : xd b_m_grow 162 (.iadd) 1 163 := ⟨by decide +kernel, rfl⟩
theorem d_m_grow_163 : xd b_m_grow 163 (.iaload) 1 164 := ⟨by decide +kernel, rfl⟩
theorem d_m_grow_164 : xd b_m_grow 164 (.isub) 1 165 := ⟨by decide +kernel, rfl⟩
theorem d_m_grow_165 : xd b_m_grow 165 (.iastore) 1 166 := ⟨by decide +kernel, rfl⟩
theorem d_m_grow_166 : xd b_m_grow 166 (.iinc 3 1) 3 169 := ⟨by decide +kernel, rfl⟩
theorem d_m_grow_169 : xj b_m_grow 169 (.goto (-62)) 3 172 (-62) 107 := ⟨by decide +kernel, rfl, by decide⟩
theorem d_m_grow_172 : xd b_m_grow 172 (.aload_n 0) 1 173 := ⟨by decide +kernel, rfl⟩
theorem d_m_grow_173 : xd b_m_grow 173 (.iload_n 1) 1 174 := ⟨by decide +kernel, rfl⟩
theorem d_m_grow_174 : xd b_m_grow 174 (.invokevirtual 134) 3 177 := ⟨by decide +kernel, rfl⟩
theorem d_m_grow_177 : xd b_m_grow 177 (.iconst 0) 1 178 := ⟨by decide +kernel, rfl⟩
theorem d_m_grow_178 : xd b_m_grow 178 (.istore_n 3) 1 179 := ⟨by decide +kernel, rfl⟩
theorem d_m_grow_179 : xd b_m_grow 179 (.iload_n 3) 1 180 := ⟨by decide +kernel, rfl⟩
theorem d_m_grow_180 : xd b_m_grow 180 (.iconst 5) 1 181 := ⟨by decide +kernel, rfl⟩
theorem d_m_grow_181 : xj b_m_grow 181 (.if_icmp .ge 28) 3 184 (28) 209 := ⟨by decide +kernel, rfl, by decide⟩
theorem d_m_grow_184 : xd b_m_grow 184 (.aload_n 0) 1 185 := ⟨by decide +kernel, rfl⟩
theorem d_m_grow_185 : xd b_m_grow 185 (.getfield 45) 3 188 := ⟨by decide +kernel, rfl⟩
theorem d_m_grow_188 : xd b_m_grow 188 (.iconst 5) 1 189 := ⟨by decide +kernel, rfl⟩
theorem d_m_grow_189 : xd b_m_grow 189 (.aload_n 0) 1 190 := ⟨by decide +kernel, rfl⟩
theorem d_m_grow_190 : xd b_m_grow 190 (.getfield 128) 3 193 := ⟨by decide +kernel, rfl⟩
theorem d_m_grow_193 : xd b_m_grow 193 (.imul) 1 194 := ⟨by decide +kernel, rfl⟩
theorem d_m_grow_194 : xd b_m_grow 194 (.iload_n 3) 1 195 := ⟨by decide +kernel, rfl⟩
theorem d_m_grow_195 : xd b_m_grow 195 (.iadd) 1 196 := ⟨by decide +kernel, rfl⟩
theorem d_m_grow_196 : xd b_m_grow 196 (.aload_n 0) 1 197 := ⟨by decide +kernel, rfl⟩
theorem d_m_grow_197 : xd b_m_grow 197 (.getfield 54) 3 200 := ⟨by decide +kernel, rfl⟩
theorem d_m_grow_200 : xd b_m_grow 200 (.iload_n 3) 1 201 := ⟨by decide +kernel, rfl⟩
theorem d_m_grow_201 : xd b_m_grow 201 (.iaload) 1 202 := ⟨by decide +kernel, rfl⟩
theorem d_m_grow_202 : xd b_m_grow 202 (.iastore) 1 203 := ⟨by decide +kernel, rfl⟩
theorem d_m_grow_203 : xd b_m_grow 203 (.iinc 3 1) 3 206 := ⟨by decide +kernel, rfl⟩
theorem d_m_grow_206 : xj b_m_grow 206 (.goto (-27)) 3 209 (-27) 179 := ⟨by decide +kernel, rfl, by decide⟩
theorem d_m_grow_209 : xd b_m_grow 209 (.aload_n 0) 1 210 := ⟨by decide +kernel, rfl⟩
theorem d_m_grow_210 : xd b_m_grow 210 (.getfield 48) 3 213 := ⟨by decide +kernel, rfl⟩
theorem d_m_grow_213 : xd b_m_grow 213 (.aload_n 0) 1 214 := ⟨by decide +kernel, rfl⟩
theorem d_m_grow_214 : xd b_m_grow 214 (.getfield 128) 3 217 := ⟨by decide +kernel, rfl⟩
theorem d_m_grow_217 : xd b_m_grow 217 (.iload_n 1) 1 218 := ⟨by decide +kernel, rfl⟩
theorem d_m_grow_218 : xd b_m_grow 218 (.iastore) 1 219 := ⟨by decide +kernel, rfl⟩
theorem d_m_grow_219 : xd b_m_grow 219 (.aload_n 0) 1 220 := ⟨by decide +kernel, rfl⟩
theorem d_m_grow_220 : xd b_m_grow 220 (.dup) 1 221 := ⟨by decide +kernel, rfl⟩
theorem d_m_grow_221 : xd b_m_grow 221 (.getfield 128) 3 224 := ⟨by decide +kernel, rfl⟩
theorem d_m_grow_224 : xd b_m_grow 224 (.iconst 1) 1 225 := ⟨by decide +kernel, rfl⟩
theorem d_m_grow_225 : xd b_m_grow 225 (.iadd) 1 226 := ⟨by decide +kernel, rfl⟩
theorem d_m_grow_226 : xd b_m_grow 226 (.putfield 128) 3 229 := ⟨by decide +kernel, rfl⟩
theorem d_m_grow_229 : xd b_m_grow 229 (.iinc 2 1) 3 232 := ⟨by decide +kernel, rfl⟩
theorem d_m_grow_232 : xj b_m_grow 232 (.goto (-168)) 3 235 (-168) 64 := ⟨by decide +kernel, rfl, by decide⟩
theorem d_m_grow_235 : xd b_m_grow 235 (.iinc 1 1) 3 238 := ⟨by decide +kernel, rfl⟩
theorem d_m_grow_238 : xj b_m_grow 238 (.goto (-194)) 3 241 (-194) 44 := ⟨by decide +kernel, rfl, by decide⟩
theorem d_m_grow_241 : xd b_m_grow 241 (.aload_n 0) 1 242 := ⟨by decide +kernel, rfl⟩
theorem d_m_grow_242 : xd b_m_grow 242 (.getfield 128) 3 245 := ⟨by decide +kernel, rfl⟩
theorem d_m_grow_245 : xd b_m_grow 245 (.sipush 1000) 3 248 := ⟨by decide +kernel, rfl⟩
theorem d_m_grow_248 : xj b_m_grow 248 (.if_icmp .le 5) 3 251 (5) 253 := ⟨by decide +kernel, rfl, by decide⟩
theorem d_m_grow_251 : xd b_m_grow 251 (.iconst (-1)) 1 252 := ⟨by decide +kernel, rfl⟩
theorem d_m_grow_252 : xd b_m_grow 252 (.ireturn) 1 253 := ⟨by decide +kernel, rfl⟩
theorem d_m_grow_253 : xd b_m_grow 253 (.aload_n 0) 1 254 := ⟨by decide +kernel, rfl⟩
theorem d_m_grow_254 : xd b_m_grow 254 (.iconst 1) 1 255 := ⟨by decide +kernel, rfl⟩
theorem d_m_grow_255 : xd b_m_grow 255 (.putfield 124) 3 258 := ⟨by decide +kernel, rfl⟩
theorem d_m_grow_258 : xd b_m_grow 258 (.aload_n 0) 1 259 := ⟨by decide +kernel, rfl⟩
theorem d_m_grow_259 : xd b_m_grow 259 (.aload_n 0) 1 260 := ⟨by decide +kernel, rfl⟩
theorem d_m_grow_260 : xd b_m_grow 260 (.getfield 60) 3 263 := ⟨by decide +kernel, rfl⟩
theorem d_m_grow_263 : xd b_m_grow 263 (.putfield 138) 3 266 := ⟨by decide +kernel, rfl⟩
theorem d_m_grow_266 : xd b_m_grow 266 (.aload_n 0) 1 267 := ⟨by decide +kernel, rfl⟩
theorem d_m_grow_267 : xd b_m_grow 267 (.invokevirtual 141) 3 270 := ⟨by decide +kernel, rfl⟩
theorem d_m_grow_270 : xd b_m_grow 270 (.aload_n 0) 1 271 := ⟨by decide +kernel, rfl⟩
theorem d_m_grow_271 : xd b_m_grow 271 (.getfield 128) 3 274 := ⟨by decide +kernel, rfl⟩
theorem d_m_grow_274 : xd b_m_grow 274 (.ireturn) 1 275 := ⟨by decide +kernel, rfl⟩
theorem d_m_tellTree_0 : xd b_m_tellTree 0 (.aload_n 0) 1 1 := ⟨by decide +kernel, rfl⟩
theorem d_m_tellTree_1 : xd b_m_tellTree 1 (.iconst 0) 1 2 := ⟨by decide +kernel, rfl⟩
theorem d_m_tellTree_2 : xd b_m_tellTree 2 (.putfield 144) 3 5 := ⟨by decide +kernel, rfl⟩
theorem d_m_tellTree_5 : xd b_m_tellTree 5 (.iconst 0) 1 6 := ⟨by decide +kernel, rfl⟩
theorem d_m_tellTree_6 : xd b_m_tellTree 6 (.istore_n 1) 1 7 := ⟨by decide +kernel, rfl⟩
theorem d_m_tellTree_7 : xd b_m_tellTree 7 (.iload_n 1) 1 8 := ⟨by decide +kernel, rfl⟩
theorem d_m_tellTree_8 : xd b_m_tellTree 8 (.aload_n 0) 1 9 := ⟨by decide +kernel, rfl⟩
theorem d_m_tellTree_9 : xd b_m_tellTree 9 (.getfield 128) 3 12 := ⟨by decide +kernel, rfl⟩
theorem d_m_tellTree_12 : xj b_m_tellTree 12 (.if_icmp .ge 56) 3 15 (56) 68 := ⟨by decide +kernel, rfl, by decide⟩
theorem d_m_tellTree_15 : xd b_m_tellTree 15 (.iconst 0) 1 16 := ⟨by decide +kernel, rfl⟩
theorem d_m_tellTree_16 : xd b_m_tellTree 16 (.istore_n 2) 1 17 := ⟨by decide +kernel, rfl⟩
theorem d_m_tellTree_17 : xd b_m_tellTree 17 (.iload_n 2) 1 18 := ⟨by decide +kernel, rfl⟩
theorem d_m_tellTree_18 : xd b_m_tellTree 18 (.aload_n 0) 1 19 := ⟨by decide +kernel, rfl⟩
theorem d_m_tellTree_19 : xd b_m_tellTree 19 (.getfield 63) 3 22 := ⟨by decide +kernel, rfl⟩
theorem d_m_tellTree_22 : xj b_m_tellTree 22 (.if_icmp .ge 40) 3 25 (40) 62 := ⟨by decide +kernel, rfl, by decide⟩
theorem d_m_tellTree_25 : xd b_m_tellTree 25 (.aload_n 0) 1 26 := ⟨by decide +kernel, rfl⟩
theorem d_m_tellTree_26 : xd b_m_tellTree 26 (.dup) 1 27 := ⟨by decide +kernel, rfl⟩
theorem d_m_tellTree_27 : xd b_m_tellTree 27 (.getfield 144) 3 30 := ⟨by decide +kernel, rfl⟩
theorem d_m_tellTree_30 : xd b_m_tellTree 30 (.aload_n 0) 1 31 := ⟨by decide +kernel, rfl⟩
theorem d_m_tellTree_31 : xd b_m_tellTree 31 (.aload_n 0) 1 32 := ⟨by decide +kernel, rfl⟩
theorem d_m_tellTree_32 : xd b_m_tellTree 32 (.getfield 45) 3 35 := ⟨by decide +kernel, rfl⟩
theorem d_m_tellTree_35 : xd b_m_tellTree 35 (.iconst 5) 1 36 := ⟨by decide +kernel, rfl⟩
theorem d_m_tellTree_36 : xd b_m_tellTree 36 (.iload_n 1) 1 37 := ⟨by decide +kernel, rfl⟩
theorem d_m_tellTree_37 : xd b_m_tellTree 37 (.imul) 1 38 := ⟨by decide +kernel, rfl⟩
theorem d_m_tellTree_38 : xd b_m_tellTree 38 (.iload_n 2) 1 39 := ⟨by decide +kernel, rfl⟩
theorem d_m_tellTree_39 : xd b_m_tellTree 39 (.invokevirtual 116) 3 42 := ⟨by decide +kernel, rfl⟩
theorem d_m_tellTree_42 : xj b_m_tellTree 42 (.ifCond .eq 9) 3 45 (9) 51 := ⟨by decide +kernel, rfl, by decide⟩
theorem d_m_tellTree_45 : xd b_m_tellTree 45 (.iconst 1) 1 46 := ⟨by decide +kernel, rfl⟩
theorem d_m_tellTree_46 : xd b_m_tellTree 46 (.iload_n 2) 1 47 := ⟨by decide +kernel, rfl⟩
theorem d_m_tellTree_47 : xd b_m_tellTree 47 (.ishl) 1 48 := ⟨by decide +kernel, rfl⟩
theorem d_m_tellTree_48 : xj b_m_tellTree 48 (.goto 4) 3 51 (4) 52 := ⟨by decide +kernel, rfl, by decide⟩
theorem d_m_tellTree_51 : xd b_m_tellTree 51 (.iconst 0) 1 52 := ⟨by decide +kernel, rfl⟩
theorem d_m_tellTree_52 : xd b_m_tellTree 52 (.ior) 1 53 := ⟨by decide +kernel, rfl⟩
theorem d_m_tellTree_53 : xd b_m_tellTree 53 (.putfield 144) 3 56 := ⟨by decide +kernel, rfl⟩
theorem d_m_tellTree_56 : xd b_m_tellTree 56 (.iinc 2 1) 3 59 := ⟨by decide +kernel, rfl⟩
theorem d_m_tellTree_59 : xj b_m_tellTree 59 (.goto (-42)) 3 62 (-42) 17 := ⟨by decide +kernel, rfl, by decide⟩
theorem d_m_tellTree_62 : xd b_m_tellTree 62 (.iinc 1 1) 3 65 := ⟨by decide +kernel, rfl⟩
theorem d_m_tellTree_65 : xj b_m_tellTree 65 (.goto (-58)) 3 68 (-58) 7 := ⟨by decide +kernel, rfl, by decide⟩
theorem d_m_tellTree_68 : xd b_m_tellTree 68 (.aload_n 0) 1 69 := ⟨by decide +kernel, rfl⟩
theorem d_m_tellTree_69 : xd b_m_tellTree 69 (.iconst 0) 1 70 := ⟨by decide +kernel, rfl⟩
theorem d_m_tellTree_70 : xd b_m_tellTree 70 (.putfield 147) 3 73 := ⟨by decide +kernel, rfl⟩
theorem d_m_tellTree_73 : xd b_m_tellTree 73 (.iconst 0) 1 74 := ⟨by decide +kernel, rfl⟩
theorem d_m_tellTree_74 : xd b_m_tellTree 74 (.istore_n 1) 1 75 := ⟨by decide +kernel, rfl⟩
theorem d_m_tellTree_75 : xd b_m_tellTree 75 (.iload_n 1) 1 76 := ⟨by decide +kernel, rfl⟩
theorem d_m_tellTree_76 : xd b_m_tellTree 76 (.aload_n 0) 1 77 := ⟨by decide +kernel, rfl⟩
theorem d_m_tellTree_77 : xd b_m_tellTree 77 (.getfield 128) 3 80 := ⟨by decide +kernel, rfl⟩
theorem d_m_tellTree_80 : xj b_m_tellTree 80 (.if_icmp .ge 169) 3 83 (169) 249 := ⟨by decide +kernel, rfl, by decide⟩
theorem d_m_tellTree_83 : xd b_m_tellTree 83 (.iconst 1) 1 84 := ⟨by decide +kernel, rfl⟩
theorem d_m_tellTree_84 : xd b_m_tellTree 84 (.istore_n 2) 1 85 := ⟨by decide +kernel, rfl⟩
theorem d_m_tellTree_85 : xd b_m_tellTree 85 (.iconst 0) 1 86 := ⟨by decide +kernel, rfl⟩
theorem d_m_tellTree_86 : xd b_m_tellTree 86 (.istore_n 3) 1 87 := ⟨by decide +kernel, rfl⟩
theorem d_m_tellTree_87 : xd b_m_tellTree 87 (.iload_n 3) 1 88 := ⟨by decide +kernel, rfl⟩
theorem d_m_tellTree_88 : xd b_m_tellTree 88 (.aload_n 0) 1 89 := ⟨by decide +kernel, rfl⟩
theorem d_m_tellTree_89 : xd b_m_tellTree 89 (.getfield 128) 3 92 := ⟨by decide +kernel, rfl⟩
theorem d_m_tellTree_92 : xj b_m_tellTree 92 (.if_icmp .ge 85) 3 95 (85) 177 := ⟨by decide +kernel, rfl, by decide⟩
theorem d_m_tellTree_95 : xd b_m_tellTree 95 (.aload_n 0) 1 96 := ⟨by decide +kernel, rfl⟩
theorem d_m_tellTree_96 : xd b_m_tellTree 96 (.getfield 45) 3 99 := ⟨by decide +kernel, rfl⟩
theorem d_m_tellTree_99 : xd b_m_tellTree 99 (.iconst 5) 1 100 := ⟨by decide +kernel, rfl⟩
theorem d_m_tellTree_100 : xd b_m_tellTree 100 (.iload_n 3) 1 101 := ⟨by decide +kernel, rfl⟩
theorem d_m_tellTree_101 : xd b_m_tellTree 101 (.imul) 1 102 := ⟨by decide +kernel, rfl⟩
theorem d_m_tellTree_102 : xd b_m_tellTree 102 (.aload_n 0) 1 103 := ⟨by decide +kernel, rfl⟩
theorem d_m_tellTree_103 : xd b_m_tellTree 103 (.getfield 45) 3 106 := ⟨by decide +kernel, rfl⟩
theorem d_m_tellTree_106 : xd b_m_tellTree 106 (.iconst 5) 1 107 := ⟨by decide +kernel, rfl⟩
theorem d_m_tellTree_107 : xd b_m_tellTree 107 (.iload_n 1) 1 108 := ⟨by decide +kernel, rfl⟩
theorem d_m_tellTree_108 : xd b_m_tellTree 108 (.imul) 1 109 := ⟨by decide +kernel, rfl⟩
theorem d_m_tellTree_109 : xd b_m_tellTree 109 (.invokestatic 83) 3 112 := ⟨by decide +kernel, rfl⟩
theorem d_m_tellTree_112 : xd b_m_tellTree 112 (.istore 4) 2 114 := ⟨by decide +kernel, rfl⟩
theorem d_m_tellTree_114 : xd b_m_tellTree 114 (.iload 4) 2 116 := ⟨by decide +kernel, rfl⟩
theorem d_m_tellTree_116 : xj b_m_tellTree 116 (.ifCond .eq 27) 3 119 (27) 143 := ⟨by decide +kernel, rfl, by decide⟩
theorem d_m_tellTree_119 : xd b_m_tellTree 119 (.aload_n 0) 1 120 := ⟨by decide +kernel, rfl⟩
theorem d_m_tellTree_120 : xd b_m_tellTree 120 (.getfield 45) 3 123 := ⟨by decide +kernel, rfl⟩
theorem d_m_tellTree_123 : xd b_m_tellTree 123 (.iconst 5) 1 124 := ⟨by decide +kernel, rfl⟩
theorem d_m_tellTree_124 : xd b_m_tellTree 124 (.iload_n 1) 1 125 := ⟨by decide +kernel, rfl⟩
theorem d_m_tellTree_125 : xd b_m_tellTree 125 (.imul) 1 126 := ⟨by decide +kernel, rfl⟩
theorem d_m_tellTree_126 : xd b_m_tellTree 126 (.aload_n 0) 1 127 := ⟨by decide +kernel, rfl⟩
theorem d_m_tellTree_127 : xd b_m_tellTree 127 (.getfield 45) 3 130 := ⟨by decide +kernel, rfl⟩
theorem d_m_tellTree_130 : xd b_m_tellTree 130 (.iconst 5) 1 131 := ⟨by decide +kernel, rfl⟩
theorem d_m_tellTree_131 : xd b_m_tellTree 131 (.iload_n 3) 1 132 := ⟨by decide +kernel, rfl⟩
theorem d_m_tellTree_132 : xd b_m_tellTree 132 (.imul) 1 133 := ⟨by decide +kernel, rfl⟩
theorem d_m_tellTree_133 : xd b_m_tellTree 133 (.invokestatic 83) 3 136 := ⟨by decide +kernel, rfl⟩
theorem d_m_tellTree_136 : xj b_m_tellTree 136 (.ifCond .eq 7) 3 139 (7) 143 := ⟨by decide +kernel, rfl, by decide⟩
theorem d_m_tellTree_139 : xd b_m_tellTree 139 (.iconst 1) 1 140 := ⟨by decide +kernel, rfl⟩
theorem d_m_tellTree_140 : xj b_m_tellTree 140 (.goto 4) 3 143 (4) 144 := ⟨by decide +kernel, rfl, by decide⟩
theorem d_m_tellTree_143 : xd b_m_tellTree 143 (.iconst 0) 1 144 := ⟨by decide +kernel, rfl⟩
theorem d_m_tellTree_144 : xd b_m_tellTree 144 (.istore 5) 2 146 := ⟨by decide +kernel, rfl⟩
theorem d_m_tellTree_146 : xd b_m_tellTree 146 (.iload_n 2) 1 147 := ⟨by decide +kernel, rfl⟩
theorem d_m_tellTree_147 : xj b_m_tellTree 147 (.ifCond .eq 22) 3 150 (22) 169 := ⟨by decide +kernel, rfl, by decide⟩
theorem d_m_tellTree_150 : xd b_m_tellTree 150 (.iload 4) 2 152 := ⟨by decide +kernel, rfl⟩
theorem d_m_tellTree_152 : xj b_m_tellTree 152 (.ifCond .eq 13) 3 155 (13) 165 := ⟨by decide +kernel, rfl, by decide⟩
theorem d_m_tellTree_155 : xd b_m_tellTree 155 (.iload 5) 2 157 := ⟨by decide +kernel, rfl⟩
theorem d_m_tellTree_157 : xj b_m_tellTree 157 (.ifCond .eq 12) 3 160 (12) 169 := ⟨by decide +kernel, rfl, by decide⟩
theorem d_m_tellTree_160 : xd b_m_tellTree 160 (.iload_n 3) 1 161 := ⟨by decide +kernel, rfl⟩
theorem d_m_tellTree_161 : xd b_m_tellTree 161 (.iload_n 1) 1 162 := ⟨by decide +kernel, rfl⟩
theorem d_m_tellTree_162 : xj b_m_tellTree 162 (.if_icmp .lt 7) 3 165 (7) 169 := ⟨by decide +kernel, rfl, by decide⟩
theorem d_m_tellTree_165 : xd b_m_tellTree 165 (.iconst 1) 1 166 := ⟨by decide +kernel, rfl⟩
theorem d_m_tellTree_166 : xj b_m_tellTree 166 (.goto 4) 3 169 (4) 170 := ⟨by decide +kernel, rfl, by decide⟩
theorem d_m_tellTree_169 : xd b_m_tellTree 169 (.iconst 0) 1 170 := ⟨by decide +kernel, rfl⟩
theorem d_m_tellTree_170 : xd b_m_tellTree 170 (.istore_n 2) 1 171 := ⟨by decide +kernel, rfl⟩
theorem d_m_tellTree_171 : xd b_m_tellTree 171 (.iinc 3 1) 3 174 := ⟨by decide +kernel, rfl⟩
theorem d_m_tellTree_174 : xj b_m_tellTree 174 (.goto (-87)) 3 177 (-87) 87 := ⟨by decide +kernel, rfl, by decide⟩
theorem d_m_tellTree_177 : xd b_m_tellTree 177 (.iload_n 2) 1 178 := ⟨by decide +kernel, rfl⟩
theorem d_m_tellTree_178 : xj b_m_tellTree 178 (.ifCond .eq 65) 3 181 (65) 243 := ⟨by decide +kernel, rfl, by decide⟩
theorem d_m_tellTree_181 : xd b_m_tellTree 181 (.aload_n 0) 1 182 := ⟨by decide +kernel, rfl⟩
theorem d_m_tellTree_182 : xd b_m_tellTree 182 (.getfield 147) 3 185 := ⟨by decide +kernel, rfl⟩
theorem d_m_tellTree_185 : xd b_m_tellTree 185 (.istore_n 3) 1 186 := ⟨by decide +kernel, rfl⟩
theorem d_m_tellTree_186 : xd b_m_tellTree 186 (.iload_n 3) 1 187 := ⟨by decide +kernel, rfl⟩
theorem d_m_tellTree_187 : xj b_m_tellTree 187 (.ifCond .le 39) 3 190 (39) 226 := ⟨by decide +kernel, rfl, by decide⟩
theorem d_m_tellTree_190 : xd b_m_tellTree 190 (.aload_n 0) 1 191 := ⟨by decide +kernel, rfl⟩
theorem d_m_tellTree_191 : xd b_m_tellTree 191 (.iload_n 1) 1 192 := ⟨by decide +kernel, rfl⟩
theorem d_m_tellTree_192 : xd b_m_tellTree 192 (.aload_n 0) 1 193 := ⟨by decide +kernel, rfl⟩
theorem d_m_tellTree_193 : xd b_m_tellTree 193 (.getfield 51) 3 196 := ⟨by decide +kernel, rfl⟩
theorem d_m_tellTree_196 : xd b_m_tellTree 196 (.iload_n 3) 1 197 := ⟨by decide +kernel, rfl⟩
theorem d_m_tellTree_197 : xd b_m_tellTree 197 (.iconst 1) 1 198 := ⟨by decide +kernel, rfl⟩
theorem d_m_tellTree_198 : xd b_m_tellTree 198 (.isub) 1 199 := ⟨by decide +kernel, rfl⟩
theorem d_m_tellTree_199 : xd b_m_tellTree 199 (.iaload) 1 200 := ⟨by decide +kernel, rfl⟩
theorem d_m_tellTree_200 : xd b_m_tellTree 200 (.invokevirtual 150) 3 203 := ⟨by decide +kernel, rfl⟩
theorem d_m_tellTree_203 : xj b_m_tellTree 203 (.ifCond .eq 23) 3 206 (23) 226 := ⟨by decide +kernel, rfl, by decide⟩
theorem d_m_tellTree_206 : xd b_m_tellTree 206 (.aload_n 0) 1 207 := ⟨by decide +kernel, rfl⟩
theorem d_m_tellTree_207 : xd b_m_tellTree 207 (.getfield 51) 3 210 := ⟨by decide +kernel, rfl⟩
theorem d_m_tellTree_210 : xd b_m_tellTree 210 (.iload_n 3) 1 211 := ⟨by decide +kernel, rfl⟩
theorem d_m_tellTree_211 : xd b_m_tellTree 211 (.aload_n 0) 1 212 := ⟨by decide +kernel, rfl⟩
theorem d_m_tellTree_212 : xd b_m_tellTree 212 (.getfield 51) 3 215 := ⟨by decide +kernel, rfl⟩
theorem d_m_tellTree_215 : xd b_m_tellTree 215 (.iload_n 3) 1 216 := ⟨by decide +kernel, rfl⟩
theorem d_m_tellTree_216 : xd b_m_tellTree 216 (.iconst 1) 1 217 := ⟨by decide +kernel, rfl⟩
theorem d_m_tellTree_217 : xd b_m_tellTree 217 (.isub) 1 218 := ⟨by decide +kernel, rfl⟩
theorem d_m_tellTree_218 : xd b_m_tellTree 218 (.iaload) 1 219 := ⟨by decide +kernel, rfl⟩
theorem d_m_tellTree_219 : xd b_m_tellTree 219 (.iastore) 1 220 := ⟨by decide +kernel, rfl⟩
theorem d_m_tellTree_220 : xd b_m_tellTree 220 (.iinc 3 (-1)) 3 223 := ⟨by decide +kernel, rfl⟩
theorem d_m_tellTree_223 : xj b_m_tellTree 223 (.goto (-37)) 3 226 (-37) 186 := ⟨by decide +kernel, rfl, by decide⟩
theorem d_m_tellTree_226 : xd b_m_tellTree 226 (.aload_n 0) 1 227 := ⟨by decide +kernel, rfl⟩
theorem d_m_tellTree_227 : xd b_m_tellTree 227 (.getfield 51) 3 230 := ⟨by decide +kernel, rfl⟩
theorem d_m_tellTree_230 : xd b_m_tellTree 230 (.iload_n 3) 1 231 := ⟨by decide +kernel, rfl⟩
theorem d_m_tellTree_231 : xd b_m_tellTree 231 (.iload_n 1) 1 232 := ⟨by decide +kernel, rfl⟩
theorem d_m_tellTree_232 : xd b_m_tellTree 232 (.iastore) 1 233 := ⟨by decide +kernel, rfl⟩
theorem d_m_tellTree_233 : xd b_m_tellTree 233 (.aload_n 0) 1 234 := ⟨by decide +kernel, rfl⟩
theorem d_m_tellTree_234 : xd b_m_tellTree 234 (.dup) 1 235 := ⟨by decide +kernel, rfl⟩
theorem d_m_tellTree_235 : xd b_m_tellTree 235 (.getfield 147) 3 238 := ⟨by decide +kernel, rfl⟩
theorem d_m_tellTree_238 : xd b_m_tellTree 238 (.iconst 1) 1 239 := ⟨by decide +kernel, rfl⟩
theorem d_m_tellTree_239 : xd b_m_tellTree 239 (.iadd) 1 240 := ⟨by decide +kernel, rfl⟩
theorem d_m_tellTree_240 : xd b_m_tellTree 240 (.putfield 147) 3 243 := ⟨by decide +kernel, rfl⟩
theorem d_m_tellTree_243 : xd b_m_tellTree 243 (.iinc 1 1) 3 246 := ⟨by decide +kernel, rfl⟩
theorem d_m_tellTree_246 : xj b_m_tellTree 246 (.goto (-171)) 3 249 (-171) 75 := ⟨by decide +kernel, rfl, by decide⟩
theorem d_m_tellTree_249 : xd b_m_tellTree 249 (.return_) 1 250 := ⟨by decide +kernel, rfl⟩
theorem d_m_isBefore_0 : xd b_m_isBefore 0 (.iconst 0) 1 1 := ⟨by decide +kernel, rfl⟩
theorem d_m_isBefore_1 : xd b_m_isBefore 1 (.istore_n 3) 1 2 := ⟨by decide +kernel, rfl⟩
theorem d_m_isBefore_2 : xd b_m_isBefore 2 (.iload_n 3) 1 3 := ⟨by decide +kernel, rfl⟩
theorem d_m_isBefore_3 : xd b_m_isBefore 3 (.iconst 5) 1 4 := ⟨by decide +kernel, rfl⟩
theorem d_m_isBefore_4 : xj b_m_isBefore 4 (.if_icmp .ge 48) 3 7 (48) 52 := ⟨by decide +kernel, rfl, by decide⟩
theorem d_m_isBefore_7 : xd b_m_isBefore 7 (.aload_n 0) 1 8 := ⟨by decide +kernel, rfl⟩
theorem d_m_isBefore_8 : xd b_m_isBefore 8 (.getfield 45) 3 11 := ⟨by decide +kernel, rfl⟩
theorem d_m_isBefore_11 : xd b_m_isBefore 11 (.iconst 5) 1 12 := ⟨by decide +kernel, rfl⟩
theorem d_m_isBefore_12 : xd b_m_isBefore 12 (.iload_n 1) 1 13 := ⟨by decide +kernel, rfl⟩
theorem d_m_isBefore_13 : xd b_m_isBefore 13 (.imul) 1 14 := ⟨by decide +kernel, rfl⟩
theorem d_m_isBefore_14 : xd b_m_isBefore 14 (.iload_n 3) 1 15 := ⟨by decide +kernel, rfl⟩
theorem d_m_isBefore_15 : xd b_m_isBefore 15 (.iadd) 1 16 := ⟨by decide +kernel, rfl⟩
theorem d_m_isBefore_16 : xd b_m_isBefore 16 (.iaload) 1 17 := ⟨by decide +kernel, rfl⟩
theorem d_m_isBefore_17 : xd b_m_isBefore 17 (.aload_n 0) 1 18 := ⟨by decide +kernel, rfl⟩
theorem d_m_isBefore_18 : xd b_m_isBefore 18 (.getfield 45) 3 21 := ⟨by decide +kernel, rfl⟩
theorem d_m_isBefore_21 : xd b_m_isBefore 21 (.iconst 5) 1 22 := ⟨by decide +kernel, rfl⟩
theorem d_m_isBefore_22 : xd b_m_isBefore 22 (.iload_n 2) 1 23 := ⟨by decide +kernel, rfl⟩
theorem d_m_isBefore_23 : xd b_m_isBefore 23 (.imul) 1 24 := ⟨by decide +kernel, rfl⟩
theorem d_m_isBefore_24 : xd b_m_isBefore 24 (.iload_n 3) 1 25 := ⟨by decide +kernel, rfl⟩
theorem d_m_isBefore_25 : xd b_m_isBefore 25 (.iadd) 1 26 := ⟨by decide +kernel, rfl⟩
theorem d_m_isBefore_26 : xd b_m_isBefore 26 (.iaload) 1 27 := ⟨by decide +kernel, rfl⟩
theorem d_m_isBefore_27 : xd b_m_isBefore 27 (.isub) 1 28 := ⟨by decide +kernel, rfl⟩
theorem d_m_isBefore_28 : xd b_m_isBefore 28 (.istore 4) 2 30 := ⟨by decide +kernel, rfl⟩
theorem d_m_isBefore_30 : xd b_m_isBefore 30 (.iload 4) 2 32 := ⟨by decide +kernel, rfl⟩
theorem d_m_isBefore_32 : xj b_m_isBefore 32 (.ifCond .eq 14) 3 35 (14) 46 := ⟨by decide +kernel, rfl, by decide⟩
theorem d_m_isBefore_35 : xd b_m_isBefore 35 (.iload 4) 2 37 := ⟨by decide +kernel, rfl⟩
theorem d_m_isBefore_37 : xj b_m_isBefore 37 (.ifCond .ge 7) 3 40 (7) 44 := ⟨by decide +kernel, rfl, by decide⟩
theorem d_m_isBefore_40 : xd b_m_isBefore 40 (.iconst 1) 1 41 := ⟨by decide +kernel, rfl⟩
theorem d_m_isBefore_41 : xj b_m_isBefore 41 (.goto 4) 3 44 (4) 45 := ⟨by decide +kernel, rfl, by decide⟩
theorem d_m_isBefore_44 : xd b_m_isBefore 44 (.iconst 0) 1 45 := ⟨by decide +kernel, rfl⟩
theorem d_m_isBefore_45 : xd b_m_isBefore 45 (.ireturn) 1 46 := ⟨by decide +kernel, rfl⟩
theorem d_m_isBefore_46 : xd b_m_isBefore 46 (.iinc 3 1) 3 49 := ⟨by decide +kernel, rfl⟩
theorem d_m_isBefore_49 : xj b_m_isBefore 49 (.goto (-47)) 3 52 (-47) 2 := ⟨by decide +kernel, rfl, by decide⟩
theorem d_m_isBefore_52 : xd b_m_isBefore 52 (.iconst 0) 1 53 := ⟨by decide +kernel, rfl⟩
theorem d_m_isBefore_53 : xd b_m_isBefore 53 (.ireturn) 1 54 := ⟨by decide +kernel, rfl⟩
theorem d_m_told_0 : xd b_m_told 0 (.iload_n 0) 1 1 := ⟨by decide +kernel, rfl⟩
theorem d_m_told_1 : xd b_m_told 1 (.ldc 123) 2 3 := ⟨by decide +kernel, rfl⟩
theorem d_m_told_3 : xj b_m_told 3 (.if_icmp .ne 8) 3 6 (8) 11 := ⟨by decide +kernel, rfl, by decide⟩
theorem d_m_told_6 : xd b_m_told 6 (.bipush (-2)) 2 8 := ⟨by decide +kernel, rfl⟩
theorem d_m_told_8 : xj b_m_told 8 (.goto 4) 3 11 (4) 12 := ⟨by decide +kernel, rfl, by decide⟩
theorem d_m_told_11 : xd b_m_told 11 (.iload_n 0) 1 12 := ⟨by decide +kernel, rfl⟩
theorem d_m_told_12 : xd b_m_told 12 (.ireturn) 1 13 := ⟨by decide +kernel, rfl⟩
theorem d_m_isGrownPlace_0 : xd b_m_isGrownPlace 0 (.aload_n 0) 1 1 := ⟨by decide +kernel, rfl⟩
theorem d_m_isGrownPlace_1 : xd b_m_isGrownPlace 1 (.getfield 124) 3 4 := ⟨by decide +kernel, rfl⟩
theorem d_m_isGrownPlace_4 : xj b_m_isGrownPlace 4 (.ifCond .eq 19) 3 7 (19) 23 := ⟨by decide +kernel, rfl, by decide⟩
theorem d_m_isGrownPlace_7 : xd b_m_isGrownPlace 7 (.iload_n 1) 1 8 := ⟨by decide +kernel, rfl⟩
theorem d_m_isGrownPlace_8 : xj b_m_isGrownPlace 8 (.ifCond .lt 15) 3 11 (15) 23 := ⟨by decide +kernel, rfl, by decide⟩
theorem d_m_isGrownPlace_11 : xd b_m_isGrownPlace 11 (.iload_n 1) 1 12 := ⟨by decide +kernel, rfl⟩
theorem d_m_isGrownPlace_12 : xd b_m_isGrownPlace 12 (.aload_n 0) 1 13 := ⟨by decide +kernel, rfl⟩
theorem d_m_isGrownPlace_13 : xd b_m_isGrownPlace 13 (.getfield 138) 3 16 := ⟨by decide +kernel, rfl⟩
theorem d_m_isGrownPlace_16 : xj b_m_isGrownPlace 16 (.if_icmp .ge 7) 3 19 (7) 23 := ⟨by decide +kernel, rfl, by decide⟩
theorem d_m_isGrownPlace_19 : xd b_m_isGrownPlace 19 (.iconst 1) 1 20 := ⟨by decide +kernel, rfl⟩
theorem d_m_isGrownPlace_20 : xj b_m_isGrownPlace 20 (.goto 4) 3 23 (4) 24 := ⟨by decide +kernel, rfl, by decide⟩
theorem d_m_isGrownPlace_23 : xd b_m_isGrownPlace 23 (.iconst 0) 1 24 := ⟨by decide +kernel, rfl⟩
theorem d_m_isGrownPlace_24 : xd b_m_isGrownPlace 24 (.ireturn) 1 25 := ⟨by decide +kernel, rfl⟩
theorem d_m_most_0 : xd b_m_most 0 (.aload_n 0) 1 1 := ⟨by decide +kernel, rfl⟩
theorem d_m_most_1 : xd b_m_most 1 (.iload_n 1) 1 2 := ⟨by decide +kernel, rfl⟩
theorem d_m_most_2 : xd b_m_most 2 (.invokevirtual 153) 3 5 := ⟨by decide +kernel, rfl⟩
theorem d_m_most_5 : xj b_m_most 5 (.ifCond .ne 5) 3 8 (5) 10 := ⟨by decide +kernel, rfl, by decide⟩
theorem d_m_most_8 : xd b_m_most 8 (.iconst (-1)) 1 9 := ⟨by decide +kernel, rfl⟩
theorem d_m_most_9 : xd b_m_most 9 (.ireturn) 1 10 := ⟨by decide +kernel, rfl⟩
theorem d_m_most_10 : xd b_m_most 10 (.iconst 0) 1 11 := ⟨by decide +kernel, rfl⟩
theorem d_m_most_11 : xd b_m_most 11 (.istore_n 2) 1 12 := ⟨by decide +kernel, rfl⟩
theorem d_m_most_12 : xd b_m_most 12 (.iconst 0) 1 13 := ⟨by decide +kernel, rfl⟩
theorem d_m_most_13 : xd b_m_most 13 (.istore_n 3) 1 14 := ⟨by decide +kernel, rfl⟩
theorem d_m_most_14 : xd b_m_most 14 (.iload_n 3) 1 15 := ⟨by decide +kernel, rfl⟩
theorem d_m_most_15 : xd b_m_most 15 (.aload_n 0) 1 16 := ⟨by decide +kernel, rfl⟩
theorem d_m_most_16 : xd b_m_most 16 (.getfield 128) 3 19 := ⟨by decide +kernel, rfl⟩
theorem d_m_most_19 : xj b_m_most 19 (.if_icmp .ge 38) 3 22 (38) 57 := ⟨by decide +kernel, rfl, by decide⟩
theorem d_m_most_22 : xd b_m_most 22 (.aload_n 0) 1 23 := ⟨by decide +kernel, rfl⟩
theorem d_m_most_23 : xd b_m_most 23 (.getfield 45) 3 26 := ⟨by decide +kernel, rfl⟩
theorem d_m_most_26 : xd b_m_most 26 (.iconst 5) 1 27 := ⟨by decide +kernel, rfl⟩
theorem d_m_most_27 : xd b_m_most 27 (.iload_n 3) 1 28 := ⟨by decide +kernel, rfl⟩
theorem d_m_most_28 : xd b_m_most 28 (.imul) 1 29 := ⟨by decide +kernel, rfl⟩
theorem d_m_most_29 : xd b_m_most 29 (.iload_n 1) 1 30 := ⟨by decide +kernel, rfl⟩
theorem d_m_most_30 : xd b_m_most 30 (.iadd) 1 31 := ⟨by decide +kernel, rfl⟩
theorem d_m_most_31 : xd b_m_most 31 (.iaload) 1 32 := ⟨by decide +kernel, rfl⟩
theorem d_m_most_32 : xd b_m_most 32 (.iload_n 2) 1 33 := ⟨by decide +kernel, rfl⟩
theorem d_m_most_33 : xj b_m_most 33 (.if_icmp .le 16) 3 36 (16) 49 := ⟨by decide +kernel, rfl, by decide⟩
theorem d_m_most_36 : xd b_m_most 36 (.aload_n 0) 1 37 := ⟨by decide +kernel, rfl⟩
theorem d_m_most_37 : xd b_m_most 37 (.getfield 45) 3 40 := ⟨by decide +kernel, rfl⟩
theorem d_m_most_40 : xd b_m_most 40 (.iconst 5) 1 41 := ⟨by decide +kernel, rfl⟩
theorem d_m_most_41 : xd b_m_most 41 (.iload_n 3) 1 42 := ⟨by decide +kernel, rfl⟩
theorem d_m_most_42 : xd b_m_most 42 (.imul) 1 43 := ⟨by decide +kernel, rfl⟩
theorem d_m_most_43 : xd b_m_most 43 (.iload_n 1) 1 44 := ⟨by decide +kernel, rfl⟩
theorem d_m_most_44 : xd b_m_most 44 (.iadd) 1 45 := ⟨by decide +kernel, rfl⟩
theorem d_m_most_45 : xd b_m_most 45 (.iaload) 1 46 := ⟨by decide +kernel, rfl⟩
theorem d_m_most_46 : xj b_m_most 46 (.goto 4) 3 49 (4) 50 := ⟨by decide +kernel, rfl, by decide⟩
theorem d_m_most_49 : xd b_m_most 49 (.iload_n 2) 1 50 := ⟨by decide +kernel, rfl⟩
theorem d_m_most_50 : xd b_m_most 50 (.istore_n 2) 1 51 := ⟨by decide +kernel, rfl⟩
theorem d_m_most_51 : xd b_m_most 51 (.iinc 3 1) 3 54 := ⟨by decide +kernel, rfl⟩
theorem d_m_most_54 : xj b_m_most 54 (.goto (-40)) 3 57 (-40) 14 := ⟨by decide +kernel, rfl, by decide⟩
theorem d_m_most_57 : xd b_m_most 57 (.iload_n 2) 1 58 := ⟨by decide +kernel, rfl⟩
theorem d_m_most_58 : xd b_m_most 58 (.invokestatic 156) 3 61 := ⟨by decide +kernel, rfl⟩
theorem d_m_most_61 : xd b_m_most 61 (.ireturn) 1 62 := ⟨by decide +kernel, rfl⟩
theorem d_m_live_0 : xd b_m_live 0 (.aload_n 0) 1 1 := ⟨by decide +kernel, rfl⟩
theorem d_m_live_1 : xd b_m_live 1 (.getfield 124) 3 4 := ⟨by decide +kernel, rfl⟩
theorem d_m_live_4 : xj b_m_live 4 (.ifCond .eq 29) 3 7 (29) 33 := ⟨by decide +kernel, rfl, by decide⟩
theorem d_m_live_7 : xd b_m_live 7 (.iload_n 1) 1 8 := ⟨by decide +kernel, rfl⟩
theorem d_m_live_8 : xj b_m_live 8 (.ifCond .lt 25) 3 11 (25) 33 := ⟨by decide +kernel, rfl, by decide⟩
theorem d_m_live_11 : xd b_m_live 11 (.iload_n 1) 1 12 := ⟨by decide +kernel, rfl⟩
theorem d_m_live_12 : xd b_m_live 12 (.bipush 6) 2 14 := ⟨by decide +kernel, rfl⟩
theorem d_m_live_14 : xj b_m_live 14 (.if_icmp .ge 19) 3 17 (19) 33 := ⟨by decide +kernel, rfl, by decide⟩
theorem d_m_live_17 : xd b_m_live 17 (.aload_n 0) 1 18 := ⟨by decide +kernel, rfl⟩
theorem d_m_live_18 : xd b_m_live 18 (.getfield 144) 3 21 := ⟨by decide +kernel, rfl⟩
theorem d_m_live_21 : xd b_m_live 21 (.iload_n 1) 1 22 := ⟨by decide +kernel, rfl⟩
theorem d_m_live_22 : xd b_m_live 22 (.ishr) 1 23 := ⟨by decide +kernel, rfl⟩
theorem d_m_live_23 : xd b_m_live 23 (.iconst 1) 1 24 := ⟨by decide +kernel, rfl⟩
theorem d_m_live_24 : xd b_m_live 24 (.iand) 1 25 := ⟨by decide +kernel, rfl⟩
theorem d_m_live_25 : xd b_m_live 25 (.iconst 1) 1 26 := ⟨by decide +kernel, rfl⟩
theorem d_m_live_26 : xj b_m_live 26 (.if_icmp .ne 7) 3 29 (7) 33 := ⟨by decide +kernel, rfl, by decide⟩
theorem d_m_live_29 : xd b_m_live 29 (.iconst 1) 1 30 := ⟨by decide +kernel, rfl⟩
theorem d_m_live_30 : xj b_m_live 30 (.goto 4) 3 33 (4) 34 := ⟨by decide +kernel, rfl, by decide⟩
theorem d_m_live_33 : xd b_m_live 33 (.iconst 0) 1 34 := ⟨by decide +kernel, rfl⟩
theorem d_m_live_34 : xd b_m_live 34 (.ireturn) 1 35 := ⟨by decide +kernel, rfl⟩
theorem d_m_limits_0 : xd b_m_limits 0 (.aload_n 0) 1 1 := ⟨by decide +kernel, rfl⟩
theorem d_m_limits_1 : xd b_m_limits 1 (.getfield 124) 3 4 := ⟨by decide +kernel, rfl⟩
theorem d_m_limits_4 : xj b_m_limits 4 (.ifCond .eq 10) 3 7 (10) 14 := ⟨by decide +kernel, rfl, by decide⟩
theorem d_m_limits_7 : xd b_m_limits 7 (.aload_n 0) 1 8 := ⟨by decide +kernel, rfl⟩
theorem d_m_limits_8 : xd b_m_limits 8 (.getfield 147) 3 11 := ⟨by decide +kernel, rfl⟩
theorem d_m_limits_11 : xj b_m_limits 11 (.goto 4) 3 14 (4) 15 := ⟨by decide +kernel, rfl, by decide⟩
theorem d_m_limits_14 : xd b_m_limits 14 (.iconst (-1)) 1 15 := ⟨by decide +kernel, rfl⟩
theorem d_m_limits_15 : xd b_m_limits 15 (.ireturn) 1 16 := ⟨by decide +kernel, rfl⟩
theorem d_m_limit_0 : xd b_m_limit 0 (.aload_n 0) 1 1 := ⟨by decide +kernel, rfl⟩
theorem d_m_limit_1 : xd b_m_limit 1 (.iload_n 2) 1 2 := ⟨by decide +kernel, rfl⟩
theorem d_m_limit_2 : xd b_m_limit 2 (.invokevirtual 153) 3 5 := ⟨by decide +kernel, rfl⟩
theorem d_m_limit_5 : xj b_m_limit 5 (.ifCond .eq 36) 3 8 (36) 41 := ⟨by decide +kernel, rfl, by decide⟩
theorem d_m_limit_8 : xd b_m_limit 8 (.iload_n 1) 1 9 := ⟨by decide +kernel, rfl⟩
theorem d_m_limit_9 : xj b_m_limit 9 (.ifCond .lt 32) 3 12 (32) 41 := ⟨by decide +kernel, rfl, by decide⟩
theorem d_m_limit_12 : xd b_m_limit 12 (.iload_n 1) 1 13 := ⟨by decide +kernel, rfl⟩
theorem d_m_limit_13 : xd b_m_limit 13 (.aload_n 0) 1 14 := ⟨by decide +kernel, rfl⟩
theorem d_m_limit_14 : xd b_m_limit 14 (.getfield 147) 3 17 := ⟨by decide +kernel, rfl⟩
theorem d_m_limit_17 : xj b_m_limit 17 (.if_icmp .ge 24) 3 20 (24) 41 := ⟨by decide +kernel, rfl, by decide⟩
theorem d_m_limit_20 : xd b_m_limit 20 (.aload_n 0) 1 21 := ⟨by decide +kernel, rfl⟩
theorem d_m_limit_21 : xd b_m_limit 21 (.getfield 45) 3 24 := ⟨by decide +kernel, rfl⟩
theorem d_m_limit_24 : xd b_m_limit 24 (.iconst 5) 1 25 := ⟨by decide +kernel, rfl⟩
theorem d_m_limit_25 : xd b_m_limit 25 (.aload_n 0) 1 26 := ⟨by decide +kernel, rfl⟩
theorem d_m_limit_26 : xd b_m_limit 26 (.getfield 51) 3 29 := ⟨by decide +kernel, rfl⟩
theorem d_m_limit_29 : xd b_m_limit 29 (.iload_n 1) 1 30 := ⟨by decide +kernel, rfl⟩
theorem d_m_limit_30 : xd b_m_limit 30 (.iaload) 1 31 := ⟨by decide +kernel, rfl⟩
theorem d_m_limit_31 : xd b_m_limit 31 (.imul) 1 32 := ⟨by decide +kernel, rfl⟩
theorem d_m_limit_32 : xd b_m_limit 32 (.iload_n 2) 1 33 := ⟨by decide +kernel, rfl⟩
theorem d_m_limit_33 : xd b_m_limit 33 (.iadd) 1 34 := ⟨by decide +kernel, rfl⟩
theorem d_m_limit_34 : xd b_m_limit 34 (.iaload) 1 35 := ⟨by decide +kernel, rfl⟩
theorem d_m_limit_35 : xd b_m_limit 35 (.invokestatic 156) 3 38 := ⟨by decide +kernel, rfl⟩
theorem d_m_limit_38 : xj b_m_limit 38 (.goto 4) 3 41 (4) 42 := ⟨by decide +kernel, rfl, by decide⟩
theorem d_m_limit_41 : xd b_m_limit 41 (.iconst (-1)) 1 42 := ⟨by decide +kernel, rfl⟩
theorem d_m_limit_42 : xd b_m_limit 42 (.ireturn) 1 43 := ⟨by decide +kernel, rfl⟩
theorem d_m_covers_0 : xd b_m_covers 0 (.iconst 0) 1 1 := ⟨by decide +kernel, rfl⟩
theorem d_m_covers_1 : xd b_m_covers 1 (.istore_n 1) 1 2 := ⟨by decide +kernel, rfl⟩
theorem d_m_covers_2 : xd b_m_covers 2 (.iconst 0) 1 3 := ⟨by decide +kernel, rfl⟩
theorem d_m_covers_3 : xd b_m_covers 3 (.istore_n 2) 1 4 := ⟨by decide +kernel, rfl⟩
theorem d_m_covers_4 : xd b_m_covers 4 (.iload_n 2) 1 5 := ⟨by decide +kernel, rfl⟩
theorem d_m_covers_5 : xd b_m_covers 5 (.aload_n 0) 1 6 := ⟨by decide +kernel, rfl⟩
theorem d_m_covers_6 : xd b_m_covers 6 (.getfield 128) 3 9 := ⟨by decide +kernel, rfl⟩
theorem d_m_covers_9 : xj b_m_covers 9 (.if_icmp .ge 55) 3 12 (55) 64 := ⟨by decide +kernel, rfl, by decide⟩
theorem d_m_covers_12 : xd b_m_covers 12 (.aload_n 0) 1 13 := ⟨by decide +kernel, rfl⟩
theorem d_m_covers_13 : xd b_m_covers 13 (.getfield 124) 3 16 := ⟨by decide +kernel, rfl⟩
theorem d_m_covers_16 : xj b_m_covers 16 (.ifCond .eq 48) 3 19 (48) 64 := ⟨by decide +kernel, rfl, by decide⟩
theorem d_m_covers_19 : xd b_m_covers 19 (.aload_n 0) 1 20 := ⟨by decide +kernel, rfl⟩
theorem d_m_covers_20 : xd b_m_covers 20 (.getfield 138) 3 23 := ⟨by decide +kernel, rfl⟩
theorem d_m_covers_23 : xd b_m_covers 23 (.aload_n 0) 1 24 := ⟨by decide +kernel, rfl⟩
theorem d_m_covers_24 : xd b_m_covers 24 (.getfield 60) 3 27 := ⟨by decide +kernel, rfl⟩
theorem d_m_covers_27 : xj b_m_covers 27 (.if_icmp .ne 37) 3 30 (37) 64 := ⟨by decide +kernel, rfl, by decide⟩
theorem d_m_covers_30 : xd b_m_covers 30 (.iload_n 1) 1 31 := ⟨by decide +kernel, rfl⟩
theorem d_m_covers_31 : xj b_m_covers 31 (.ifCond .ne 21) 3 34 (21) 52 := ⟨by decide +kernel, rfl, by decide⟩
theorem d_m_covers_34 : xd b_m_covers 34 (.aload_n 0) 1 35 := ⟨by decide +kernel, rfl⟩
theorem d_m_covers_35 : xd b_m_covers 35 (.getfield 45) 3 38 := ⟨by decide +kernel, rfl⟩
theorem d_m_covers_38 : xd b_m_covers 38 (.iconst 5) 1 39 := ⟨by decide +kernel, rfl⟩
theorem d_m_covers_39 : xd b_m_covers 39 (.iload_n 2) 1 40 := ⟨by decide +kernel, rfl⟩
theorem d_m_covers_40 : xd b_m_covers 40 (.imul) 1 41 := ⟨by decide +kernel, rfl⟩
theorem d_m_covers_41 : xd b_m_covers 41 (.aload_n 0) 1 42 := ⟨by decide +kernel, rfl⟩
theorem d_m_covers_42 : xd b_m_covers 42 (.getfield 13) 3 45 := ⟨by decide +kernel, rfl⟩
theorem d_m_covers_45 : xd b_m_covers 45 (.iconst 0) 1 46 := ⟨by decide +kernel, rfl⟩
theorem d_m_covers_46 : xd b_m_covers 46 (.invokestatic 83) 3 49 := ⟨by decide +kernel, rfl⟩
theorem d_m_covers_49 : xj b_m_covers 49 (.ifCond .eq 7) 3 52 (7) 56 := ⟨by decide +kernel, rfl, by decide⟩
theorem d_m_covers_52 : xd b_m_covers 52 (.iconst 1) 1 53 := ⟨by decide +kernel, rfl⟩
theorem d_m_covers_53 : xj b_m_covers 53 (.goto 4) 3 56 (4) 57 := ⟨by decide +kernel, rfl, by decide⟩
theorem d_m_covers_56 : xd b_m_covers 56 (.iconst 0) 1 57 := ⟨by decide +kernel, rfl⟩
theorem d_m_covers_57 : xd b_m_covers 57 (.istore_n 1) 1 58 := ⟨by decide +kernel, rfl⟩
theorem d_m_covers_58 : xd b_m_covers 58 (.iinc 2 1) 3 61 := ⟨by decide +kernel, rfl⟩
theorem d_m_covers_61 : xj b_m_covers 61 (.goto (-57)) 3 64 (-57) 4 := ⟨by decide +kernel, rfl, by decide⟩
theorem d_m_covers_64 : xd b_m_covers 64 (.iload_n 1) 1 65 := ⟨by decide +kernel, rfl⟩
theorem d_m_covers_65 : xd b_m_covers 65 (.ireturn) 1 66 := ⟨by decide +kernel, rfl⟩
theorem d_m_fire_0 : xd b_m_fire 0 (.aload_n 0) 1 1 := ⟨by decide +kernel, rfl⟩
theorem d_m_fire_1 : xd b_m_fire 1 (.aload_n 0) 1 2 := ⟨by decide +kernel, rfl⟩
theorem d_m_fire_2 : xd b_m_fire 2 (.getfield 22) 3 5 := ⟨by decide +kernel, rfl⟩
theorem d_m_fire_5 : xd b_m_fire 5 (.iconst 0) 1 6 := ⟨by decide +kernel, rfl⟩
theorem d_m_fire_6 : xd b_m_fire 6 (.iload_n 1) 1 7 := ⟨by decide +kernel, rfl⟩
theorem d_m_fire_7 : xd b_m_fire 7 (.invokevirtual 116) 3 10 := ⟨by decide +kernel, rfl⟩
theorem d_m_fire_10 : xj b_m_fire 10 (.ifCond .ne 5) 3 13 (5) 15 := ⟨by decide +kernel, rfl, by decide⟩
theorem d_m_fire_13 : xd b_m_fire 13 (.iconst 0) 1 14 := ⟨by decide +kernel, rfl⟩
theorem d_m_fire_14 : xd b_m_fire 14 (.ireturn) 1 15 := ⟨by decide +kernel, rfl⟩
theorem d_m_fire_15 : xd b_m_fire 15 (.iconst 0) 1 16 := ⟨by decide +kernel, rfl⟩
theorem d_m_fire_16 : xd b_m_fire 16 (.istore_n 2) 1 17 := ⟨by decide +kernel, rfl⟩
theorem d_m_fire_17 : xd b_m_fire 17 (.iload_n 2) 1 18 := ⟨by decide +kernel, rfl⟩
theorem d_m_fire_18 : xd b_m_fire 18 (.iconst 5) 1 19 := ⟨by decide +kernel, rfl⟩
theorem d_m_fire_19 : xj b_m_fire 19 (.if_icmp .ge 39) 3 22 (39) 58 := ⟨by decide +kernel, rfl, by decide⟩
theorem d_m_fire_22 : xd b_m_fire 22 (.aload_n 0) 1 23 := ⟨by decide +kernel, rfl⟩
theorem d_m_fire_23 : xd b_m_fire 23 (.getfield 22) 3 26 := ⟨by decide +kernel, rfl⟩
theorem d_m_fire_26 : xd b_m_fire 26 (.iload_n 2) 1 27 := ⟨by decide +kernel, rfl⟩
theorem d_m_fire_27 : xd b_m_fire 27 (.dup2) 1 28 := ⟨by decide +kernel, rfl⟩
theorem d_m_fire_28 : xd b_m_fire 28 (.iaload) 1 29 := ⟨by decide +kernel, rfl⟩
theorem d_m_fire_29 : xd b_m_fire 29 (.aload_n 0) 1 30 := ⟨by decide +kernel, rfl⟩
theorem d_m_fire_30 : xd b_m_fire 30 (.getfield 19) 3 33 := ⟨by decide +kernel, rfl⟩
theorem d_m_fire_33 : xd b_m_fire 33 (.iconst 5) 1 34 := ⟨by decide +kernel, rfl⟩
theorem d_m_fire_34 : xd b_m_fire 34 (.iload_n 1) 1 35 := ⟨by decide +kernel, rfl⟩
theorem d_m_fire_35 : xd b_m_fire 35 (.imul) 1 36 := ⟨by decide +kernel, rfl⟩
theorem d_m_fire_36 : xd b_m_fire 36 (.iload_n 2) 1 37 := ⟨by decide +kernel, rfl⟩
theorem d_m_fire_37 : xd b_m_fire 37 (.iadd) 1 38 := ⟨by decide +kernel, rfl⟩
theorem d_m_fire_38 : xd b_m_fire 38 (.iaload) 1 39 := ⟨by decide +kernel, rfl⟩
theorem d_m_fire_39 : xd b_m_fire 39 (.aload_n 0) 1 40 := ⟨by decide +kernel, rfl⟩
theorem d_m_fire_40 : xd b_m_fire 40 (.getfield 16) 3 43 := ⟨by decide +kernel, rfl⟩
theorem d_m_fire_43 : xd b_m_fire 43 (.iconst 5) 1 44 := ⟨by decide +kernel, rfl⟩
theorem d_m_fire_44 : xd b_m_fire 44 (.iload_n 1) 1 45 := ⟨by decide +kernel, rfl⟩
theorem d_m_fire_45 : xd b_m_fire 45 (.imul) 1 46 := ⟨by decide +kernel, rfl⟩
theorem d_m_fire_46 : xd b_m_fire 46 (.iload_n 2) 1 47 := ⟨by decide +kernel, rfl⟩
theorem d_m_fire_47 : xd b_m_fire 47 (.iadd) 1 48 := ⟨by decide +kernel, rfl⟩
theorem d_m_fire_48 : xd b_m_fire 48 (.iaload) 1 49 := ⟨by decide +kernel, rfl⟩
theorem d_m_fire_49 : xd b_m_fire 49 (.isub) 1 50 := ⟨by decide +kernel, rfl⟩
theorem d_m_fire_50 : xd b_m_fire 50 (.iadd) 1 51 := ⟨by decide +kernel, rfl⟩
theorem d_m_fire_51 : xd b_m_fire 51 (.iastore) 1 52 := ⟨by decide +kernel, rfl⟩
theorem d_m_fire_52 : xd b_m_fire 52 (.iinc 2 1) 3 55 := ⟨by decide +kernel, rfl⟩
theorem d_m_fire_55 : xj b_m_fire 55 (.goto (-38)) 3 58 (-38) 17 := ⟨by decide +kernel, rfl, by decide⟩
theorem d_m_fire_58 : xd b_m_fire 58 (.iconst 1) 1 59 := ⟨by decide +kernel, rfl⟩
theorem d_m_fire_59 : xd b_m_fire 59 (.ireturn) 1 60 := ⟨by decide +kernel, rfl⟩
theorem d_m_tokens_0 : xd b_m_tokens 0 (.aload_n 0) 1 1 := ⟨by decide +kernel, rfl⟩
theorem d_m_tokens_1 : xd b_m_tokens 1 (.iload_n 1) 1 2 := ⟨by decide +kernel, rfl⟩
theorem d_m_tokens_2 : xd b_m_tokens 2 (.invokevirtual 77) 3 5 := ⟨by decide +kernel, rfl⟩
theorem d_m_tokens_5 : xj b_m_tokens 5 (.ifCond .eq 12) 3 8 (12) 17 := ⟨by decide +kernel, rfl, by decide⟩
theorem d_m_tokens_8 : xd b_m_tokens 8 (.aload_n 0) 1 9 := ⟨by decide +kernel, rfl⟩
theorem d_m_tokens_9 : xd b_m_tokens 9 (.getfield 22) 3 12 := ⟨by decide +kernel, rfl⟩
theorem d_m_tokens_12 : xd b_m_tokens 12 (.iload_n 1) 1 13 := ⟨by decide +kernel, rfl⟩
theorem d_m_tokens_13 : xd b_m_tokens 13 (.iaload) 1 14 := ⟨by decide +kernel, rfl⟩
theorem d_m_tokens_14 : xj b_m_tokens 14 (.goto 4) 3 17 (4) 18 := ⟨by decide +kernel, rfl, by decide⟩
theorem d_m_tokens_17 : xd b_m_tokens 17 (.iconst (-1)) 1 18 := ⟨by decide +kernel, rfl⟩
theorem d_m_tokens_18 : xd b_m_tokens 18 (.ireturn) 1 19 := ⟨by decide +kernel, rfl⟩
end
section
/-! fields, arrays, calls -/
theorem nI_c {j n : Nat} (h : j < n) (hn : n < 100000) : (nI j).toNatClampNeg = j := nI_clamp (by omega)
section XF
variable {E : XE} {cc : ByteArray} {nL fr lo pc n : Nat} {g : Bool} {q : Nat → Nat} {cA : Nat → ClassId} {L st : List Value} {σ : XS}
theorem x_get (C : XOk E cc nL (xC g) fr lo) (K : XCl E g q cA) (k : Nat) (hk : Nat.blt k (xN g) = true) {v : Value} (hv : (xfs g q σ)[k]? = some v) (d : xd cc pc (.getfield (xix g k)) 3 n) (kk : Wx E n L (v :: st) σ) : Wx E pc L (.ref (q 0) :: st) σ := by
  obtain ⟨d, rfl⟩ := d
  intro H locs ls hP hD hS hl
  have hP' := hP
  rw [K.1] at hP'
  have hk := Nat.blt_eq.mp hk
  exact va_get C.1 C.2.1 C.2.2.2.2.1 (xin g) C.2.2.2.1 K.2 hP' 0 (xw_0 g q cA σ) (xcl g) k hk (C.2.2.2.2.1 _ (xfl g k hk)) (fun _ h => by rw [xown g k hk] at h; exact h) hv d (kk H locs ls hP hD hS hl)
/-- an int field -/
theorem x_geti (C : XOk E cc nL (xC g) fr lo) (K : XCl E g q cA) (k : Nat) (hk : Nat.blt k (xN g) = true) (h0 : xk g k = 0) (d : xd cc pc (.getfield (xix g k)) 3 n) (kk : Wx E n L (.int (σ k 0) :: st) σ) : Wx E pc L (.ref (q 0) :: st) σ :=
  x_get C K k hk (xw_int g q cA σ k h0 (Nat.blt_eq.mp hk)) d kk
theorem x_getv (C : XOk E cc nL (xC g) fr lo) (K : XCl E g q cA) (k : Nat) (hk : Nat.blt k (xN g) = true) (h0 : xk g k = 0) {v : Int32} (hv : σ k 0 = v) (d : xd cc pc (.getfield (xix g k)) 3 n) (kk : Wx E n L (.int v :: st) σ) : Wx E pc L (.ref (q 0) :: st) σ := by
  subst hv
  exact x_geti C K k hk h0 d kk
/-- an array field -/
theorem x_geta (C : XOk E cc nL (xC g) fr lo) (K : XCl E g q cA) (k : Nat) (hk : Nat.blt k (xN g) = true) (h0 : xk g k ≠ 0) (d : xd cc pc (.getfield (xix g k)) 3 n) (kk : Wx E n L (.ref (q k) :: st) σ) : Wx E pc L (.ref (q 0) :: st) σ :=
  x_get C K k hk (xw_ref g q cA σ k h0) d kk
theorem x_putv (C : XOk E cc nL (xC g) fr lo) (K : XCl E g q cA) (k : Nat) (hk : Nat.blt k (xN g) = true) (h0 : xk g k = 0) {v : Int32} {ty : FieldType} (hty : xty g k = ty) (hn : narrow ty (.int v) = .int v) (hf : fits ty (.int v) = true) (d : xd cc pc (.putfield (xix g k)) 3 n) (kk : Wx E n L st (va_up σ k (fun _ => v))) : Wx E pc L (.int v :: .ref (q 0) :: st) σ := by
  obtain ⟨d, rfl⟩ := d
  intro H locs ls hP hD hS hl
  have hk := Nat.blt_eq.mp hk
  subst hty
  have hw := xw_put g q cA σ k h0 hk v
  refine va_put C.1 C.2.1 C.2.2.2.2.1 (xin g) (xty g) (xtok g) (xnm g) C.2.2.2.1 K.2 (by rw [K.1] at hP; exact hP) (by rw [K.1] at hD; exact hD) hS 0 (xw_0 g q cA σ) (xcl g) k hk (C.2.2.2.2.1 _ (xfl g k hk)) (fun _ h => by rw [xown g k hk] at h; exact h) (xfin g k hk h0) (xtok g k hk) hn hf (List.getElem?_eq_some_iff.mp (xw_int g q cA σ k h0 hk)).1 d (fun H1 locs1 hP1 hD1 hS1 => ?_)
  rw [hw] at hP1 hD1
  exact kk H1 locs1 ls (by rw [K.1]; exact hP1) (by rw [K.1]; exact hD1) hS1 hl
theorem x_puti (C : XOk E cc nL (xC g) fr lo) (K : XCl E g q cA) (k : Nat) (hk : Nat.blt k (xN g) = true) (h0 : xk g k = 0) {v : Int32} (hty : xty g k = .int) (d : xd cc pc (.putfield (xix g k)) 3 n) (kk : Wx E n L st (va_up σ k (fun _ => v))) : Wx E pc L (.int v :: .ref (q 0) :: st) σ :=
  x_putv C K k hk h0 hty rfl rfl d kk
theorem x_iald (C : XOk E cc nL (xC g) fr lo) (K : XCl E g q cA) {k N j : Nat} (hk : xk g k = 1) (hN : xlen g k = N) (h : j < N) {v : Int32} (hv : σ k j = v) (d : xd cc pc .iaload 1 n) (kk : Wx E n L (.int v :: st) σ) : Wx E pc L (.int (nI j) :: .ref (q k) :: st) σ := by
  obtain ⟨d, rfl⟩ := d
  subst hv; subst hN
  intro H locs ls hP hD hS hl
  have hl2 := xlen_lt g k
  have hP' := hP
  rw [K.1] at hP'
  refine va_iald C.1 C.2.1 K.2 hP' (xpos g k) (xpos g k - 1) (xw_arr g q cA σ k (by rw [hk]; decide)) (xty1 g cA k hk) (vp_in_nI h (by omega)) d ?_
  rw [nI_c h hl2]
  exact kk H locs ls hP hD hS hl
theorem x_bald (C : XOk E cc nL (xC g) fr lo) (K : XCl E g q cA) {k N j : Nat} (hk : xk g k = 2) (hN : xlen g k = N) (h : j < N) {v : Int32} (hv : σ k j = v) (d : xd cc pc .baload 1 n) (kk : Wx E n L (.int v :: st) σ) : Wx E pc L (.int (nI j) :: .ref (q k) :: st) σ := by
  obtain ⟨d, rfl⟩ := d
  subst hv; subst hN
  intro H locs ls hP hD hS hl
  have hl2 := xlen_lt g k
  have hP' := hP
  rw [K.1] at hP'
  refine va_bald C.1 C.2.1 K.2 hP' (xpos g k) (xpos g k - 1) (xw_arr g q cA σ k (by rw [hk]; decide)) (xty2 g cA k hk) (vp_in_nI h (by omega)) d ?_
  rw [nI_c h hl2]
  exact kk H locs ls hP hD hS hl
theorem x_sald (C : XOk E cc nL (xC g) fr lo) (K : XCl E g q cA) {k N j : Nat} (hk : xk g k = 3) (hN : xlen g k = N) (h : j < N) {v : Int32} (hv : σ k j = v) (d : xd cc pc .saload 1 n) (kk : Wx E n L (.int v :: st) σ) : Wx E pc L (.int (nI j) :: .ref (q k) :: st) σ := by
  obtain ⟨d, rfl⟩ := d
  subst hv; subst hN
  intro H locs ls hP hD hS hl
  have hl2 := xlen_lt g k
  have hP' := hP
  rw [K.1] at hP'
  refine va_sald C.1 C.2.1 K.2 hP' (xpos g k) (xpos g k - 1) (xw_arr g q cA σ k (by rw [hk]; decide)) (xty3 g cA k hk) (vp_in_nI h (by omega)) d ?_
  rw [nI_c h hl2]
  exact kk H locs ls hP hD hS hl
theorem x_iast (C : XOk E cc nL (xC g) fr lo) (K : XCl E g q cA) {k N j : Nat} {v : Int32} (hk : xk g k = 1) (hN : xlen g k = N) (h : j < N) (d : xd cc pc .iastore 1 n) (kk : Wx E n L st (va_up σ k (upd (σ k) j v))) : Wx E pc L (.int v :: .int (nI j) :: .ref (q k) :: st) σ := by
  obtain ⟨d, rfl⟩ := d
  subst hN
  intro H locs ls hP hD hS hl
  have hl2 := xlen_lt g k
  have hz : xk g k ≠ 0 := by rw [hk]; decide
  refine va_iast C.1 C.2.1 K.2 (by rw [K.1] at hP; exact hP) (by rw [K.1] at hD; exact hD) hS (xpos g k) (xpos g k - 1) (xw_arr g q cA σ k hz) (xty1 g cA k hk) (vp_in_nI h (by omega)) d (fun H1 locs1 hP1 hD1 hS1 => ?_)
  rw [nI_c h hl2, xw_set g q cA σ k hz] at hP1 hD1
  exact kk H1 locs1 ls (by rw [K.1]; exact hP1) (by rw [K.1]; exact hD1) hS1 hl
theorem x_bast (C : XOk E cc nL (xC g) fr lo) (K : XCl E g q cA) {k N j : Nat} {v : Int32} (hk : xk g k = 2) (hN : xlen g k = N) (h : j < N) (hv : v.toInt8.toInt32 = v) (d : xd cc pc .bastore 1 n) (kk : Wx E n L st (va_up σ k (upd (σ k) j v))) : Wx E pc L (.int v :: .int (nI j) :: .ref (q k) :: st) σ := by
  obtain ⟨d, rfl⟩ := d
  subst hN
  intro H locs ls hP hD hS hl
  have hl2 := xlen_lt g k
  have hz : xk g k ≠ 0 := by rw [hk]; decide
  refine va_bast C.1 C.2.1 K.2 (by rw [K.1] at hP; exact hP) (by rw [K.1] at hD; exact hD) hS (xpos g k) (xpos g k - 1) (xw_arr g q cA σ k hz) (xty2 g cA k hk) (vp_in_nI h (by omega)) d (fun H1 locs1 hP1 hD1 hS1 => ?_)
  rw [nI_c h hl2, vp_nar_byte, hv, xw_set g q cA σ k hz] at hP1 hD1
  exact kk H1 locs1 ls (by rw [K.1]; exact hP1) (by rw [K.1]; exact hD1) hS1 hl
theorem x_sast (C : XOk E cc nL (xC g) fr lo) (K : XCl E g q cA) {k N j : Nat} {v : Int32} (hk : xk g k = 3) (hN : xlen g k = N) (h : j < N) (hv : v.toInt16.toInt32 = v) (d : xd cc pc .sastore 1 n) (kk : Wx E n L st (va_up σ k (upd (σ k) j v))) : Wx E pc L (.int v :: .int (nI j) :: .ref (q k) :: st) σ := by
  obtain ⟨d, rfl⟩ := d
  subst hN
  intro H locs ls hP hD hS hl
  have hl2 := xlen_lt g k
  have hz : xk g k ≠ 0 := by rw [hk]; decide
  refine va_sast C.1 C.2.1 K.2 (by rw [K.1] at hP; exact hP) (by rw [K.1] at hD; exact hD) hS (xpos g k) (xpos g k - 1) (xw_arr g q cA σ k hz) (xty3 g cA k hk) (vp_in_nI h (by omega)) d (fun H1 locs1 hP1 hD1 hS1 => ?_)
  rw [nI_c h hl2, vp_nar_short, hv, xw_set g q cA σ k hz] at hP1 hD1
  exact kk H1 locs1 ls (by rw [K.1]; exact hP1) (by rw [K.1]; exact hD1) hS1 hl
end XF
/-- the kinds of array by their element -/
def xel (kd : Nat) : FieldType := match kd with
  | 2 => .byte
  | 3 => .short
  | _ => .int
theorem xtye (g : Bool) (cA : Nat → ClassId) (k kd : Nat) (h : xk g k = kd) (hd : kd = 1 ∨ kd = 2 ∨ kd = 3) : (xtys g cA)[xpos g k - 1]? = some (cA k, xel kd) := by
  rcases hd with rfl | rfl | rfl
  · exact xty1 g cA k h
  · exact xty2 g cA k h
  · exact xty3 g cA k h
section XG
variable {E : XE} {cc : ByteArray} {nL fr lo pc n : Nat} {q : Nat → Nat} {cA : Nat → ClassId} {L st : List Value} {σ : XS}
theorem x_copy (C : XOk E cc nL "CoverRounds" fr lo) (K : XCl E false q cA) {k0 k1 N0 N1 sp dp m : Nat} (kd : Nat) (hd : kd = 1 ∨ kd = 2 ∨ kd = 3) (hk0 : xk false k0 = kd) (hk1 : xk false k1 = kd) (hN0 : xlen false k0 = N0) (hN1 : xlen false k1 = N1) (h0 : sp + m ≤ N0) (h1 : dp + m ≤ N1) (hfit : ∀ i, i < m → fits (xel kd) (.int (σ k0 (sp + i))) = true) (hfr : 1 ≤ fr) (hlo : 26 ≤ lo) (hst : (st.map fun v => v.category).sum ≤ 8) (d : xd cc pc (.invokestatic 71) 3 n) (kk : Wx E n L st (va_up σ k1 (va_cpy (σ k0) (σ k1) sp dp m))) : Wx E pc L (.int (nI m) :: .int (nI dp) :: .ref (q k1) :: .int (nI sp) :: .ref (q k0) :: st) σ := by
  obtain ⟨d, rfl⟩ := d
  subst hN0; subst hN1
  intro H locs ls hP hD hS hl
  have l0 := xlen_lt false k0
  have l1 := xlen_lt false k1
  have hz0 : xk false k0 ≠ 0 := by rw [hk0]; omega
  have hz1 : xk false k1 ≠ 0 := by rw [hk1]; omega
  have e1 : (nI sp).toNatClampNeg = sp := nI_clamp (by omega)
  have e2 : (nI dp).toNatClampNeg = dp := nI_clamp (by omega)
  have e3 : (nI m).toNatClampNeg = m := nI_clamp (by omega)
  have hts := C.2.2.2.2.1
  obtain ⟨ta, tb, tc, td⟩ := tb_ac
  refine va_copyi C.1 C.2.1 hl.1.symm C.2.2.2.1 (hts _ ta) (hts _ tb) (hts _ tc) (hts _ td) K.2 (by rw [K.1] at hP; exact hP) (by rw [K.1] at hD; exact hD) hS (xpos false k0) (xpos false k1) (xpos false k0 - 1) (xpos false k1 - 1) (xw_arr false q cA σ k0 hz0) (xw_arr false q cA σ k1 hz1) (xtye false cA k0 kd hk0 hd) (xtye false cA k1 kd hk1 hd) (by rcases hd with rfl | rfl | rfl <;> rfl) (nI_pos (by omega)) (nI_pos (by omega)) (nI_pos (by omega)) (by rw [e1, e3]; exact h0) (by rw [e2, e3]; exact h1) (by rw [e1, e3]; exact hfit) (Nat.le_trans hfr C.2.2.2.2.2.2.1) ?_ d (fun H1 locs1 hP1 hD1 hS1 => ?_)
  · have := C.2.2.2.2.2.2.2.1
    have hw : nativeFrameWords "java/lang/System" "arraycopy" 5 = 7 := by decide
    rw [hw]
    omega
  · rw [e1, e2, e3, xw_set false q cA σ k1 hz1] at hP1 hD1
    exact kk H1 locs1 ls (by rw [K.1]; exact hP1) (by rw [K.1]; exact hD1) hS1 hl
theorem x_maxN (C : XOk E cc nL "CoverRounds" fr lo) {a b : Nat} (ha : a < 2 ^ 31) (hb : b < 2 ^ 31) (hfr : 1 ≤ fr) (hlo : 21 ≤ lo) (hst : (st.map fun v => v.category).sum ≤ 8) (d : xd cc pc (.invokestatic 112) 3 n) (kk : Wx E n L (.int (nI (max a b)) :: st) σ) : Wx E pc L (.int (nI b) :: .int (nI a) :: st) σ := by
  obtain ⟨d, rfl⟩ := d
  intro H locs ls hP hD hS hl
  have hts := C.2.2.2.2.1
  obtain ⟨ta, tb, tc, td⟩ := tb_mx
  refine va_mmax C.1 C.2.1 hl.1.symm C.2.2.2.1 (hts _ ta) (hts _ tb) (hts _ tc) (hts _ td) (Nat.le_trans hfr C.2.2.2.2.2.2.1) ?_ C.2.2.2.2.2.2.2.2.1 C.2.2.2.2.2.2.2.2.2 d ?_
  · have := C.2.2.2.2.2.2.2.1
    omega
  · have e : (if nI a < nI b then nI b else nI a) = nI (max a b) := by
      by_cases h : a < b
      · rw [if_pos ((nI_ltI ha hb).mpr h), Nat.max_eq_right (Nat.le_of_lt h)]
      · rw [if_neg (fun z => h ((nI_ltI ha hb).mp z)), Nat.max_eq_left (Nat.le_of_not_lt h)]
    rw [e]
    exact kk H locs ls hP hD hS hl
end XG
/-! ## contracts -/
def xR (fr lo : Nat) : Room := { frames := fr, cells := 0, slots := 0, locals := lo }
def XPre (g : Bool) (D : va_G) (q : Nat → Nat) (cA : Nat → ClassId) (sz : Nat) (σ : XS) : State → Prop := fun U => U.heap.size = sz ∧ va_P D classes (xw g q cA σ) U.heap ∧ va_K D classes (xtys g cA) U ∧ va_D (fun _ => True) (xw g q cA σ)
def XPost (g : Bool) (D : va_G) (q : Nat → Nat) (cA : Nat → ClassId) (sz : Nat) (σ : XS) : XS → State → Prop := fun σ' t => va_P D classes (xw g q cA σ') t.heap ∧ va_K D classes (xtys g cA) t ∧ va_D (va_A (xw g q cA σ) sz) (xw g q cA σ')
/-- y answers an int, from a state σ, as Post says -/
def XCi (g : Bool) (l : Launch) (y : MethodName) (b : ByteArray) (mL : Nat) (ret : FieldType) (fr lo : Nat) (avs : (Nat → Nat) → List Value) (σ : XS) (Post : Int32 → XS → Prop) : Prop :=
  ∀ (D : va_G) (q : Nat → Nat) (cA : Nat → ClassId) (sz : Nat), Met l y (.code y b mL (some ret) :: lw_g) (xR fr lo) (va_Pc (avs q) (XPre g D q cA sz σ)) (va_Qi Post (XPost g D q cA sz σ) (va_A (xw g q cA σ) sz)) 0 0 (va_A (xw g q cA σ) sz)
def XCv (g : Bool) (l : Launch) (y : MethodName) (b : ByteArray) (mL : Nat) (fr lo : Nat) (avs : (Nat → Nat) → List Value) (σ : XS) (Post : XS → Prop) : Prop :=
  ∀ (D : va_G) (q : Nat → Nat) (cA : Nat → ClassId) (sz : Nat), Met l y (.code y b mL none :: lw_g) (xR fr lo) (va_Pc (avs q) (XPre g D q cA sz σ)) (va_Qv Post (XPost g D q cA sz σ) (va_A (xw g q cA σ) sz)) 0 0 (va_A (xw g q cA σ) sz)
def XRi (E : XE) (b : ByteArray) (ret : FieldType) (Post : Int32 → XS → Prop) : Prop := ∀ {v : Int32} {σ : XS} {pc n : Nat} {L : List Value}, narrow ret (.int v) = .int v → Post v σ → xd b pc .ireturn 1 n → Wx E pc L [.int v] σ
def XRv (E : XE) (b : ByteArray) (Post : XS → Prop) : Prop := ∀ {σ : XS} {pc n : Nat} {L : List Value}, Post σ → xd b pc .return_ 1 n → Wx E pc L [] σ
theorem xl_entry (vs : List Value) (mL : Nat) (hc : ∀ v ∈ vs, v.category = 1) (hn : vs.length ≤ mL) : xl ((lg_sl vs ++ List.replicate (mL - (lg_sl vs).length) Slot.unset).toArray) mL vs := by
  have h := lv_entry vs (n := mL) (by rw [lg_sl_len vs hc]; exact hn)
  refine ⟨h.1, h.2.1, hc, fun i v hi => ?_⟩
  have := xl_entry_at vs 0 hc i v hi
  rw [Nat.zero_add] at this
  exact h.2.2 _ this
theorem XCi.of {g : Bool} {l : Launch} {y : MethodName} {b : ByteArray} {mL : Nat} {ret : FieldType} {fr lo : Nat} {avs : (Nat → Nat) → List Value} {σ : XS} {Post : Int32 → XS → Prop} (hy : plainName y.cls = true) (hcls : y.cls = xC g) (hc : ∀ q, (avs q).all (fun v => v.category == 1) = true) (hn : ∀ q, Nat.ble (avs q).length mL = true)
    (body : ∀ (E : XE) (q : Nat → Nat) (cA : Nat → ClassId), e_l E = l → XOk E b mL (xC g) fr lo → XCl E g q cA → XRi E b ret Post → Wx E 0 (avs q) [] σ) : XCi g l y b mL ret fr lo avs σ Post := by
  intro D q cA sz
  refine Met.ofW (cc := b) (maxL := mL) (ret := some ret) hy rfl ?_
  intro p e s m args below meth c s₁ B hml hv
  obtain ⟨rfl, hsz, hP, hK, hD0⟩ := hv
  subst hsz
  have hx := B.exec
  have hb := B.bytes
  have hr := B.returns
  have hts := atoms_spec (ws := .code y b mL (some ret) :: lw_g) B.pre
  have hown : s.vm.findClass (xC g) = some m.cls := by rw [← hcls]; exact findClass_of_methodNamed B.named
  have hlocks := B.notSynchronized
  have hD := hD0.self (sz := s.heap.size)
  have hS : va_S (va_A (xw g q cA σ) s.heap.size) s.heap s.heap [] := va_S.rf
  have hcat : ∀ v ∈ avs q, v.category = 1 := fun v hv => by simpa using List.all_eq_true.mp (hc q) v hv
  have hl := xl_entry (avs q) mL hcat (Nat.le_of_ble_eq_true (hn q))
  rw [lg_entry_eq]
  have key := body (p, l, e, (headSpec (.code y b mL (some ret) :: lw_g) (xR fr lo)).room, s, m, (avs q).toArray, below, meth, c, 0, 0, D, va_A (xw g q cA σ) s.heap.size, xw g q cA, MQ below (va_Qi Post (XPost g D q cA s.heap.size σ) (va_A (xw g q cA σ) s.heap.size)) (avs q).toArray s 0 0 (va_A (xw g q cA σ) s.heap.size)) q cA rfl
    ⟨hx, hb, hml, hown, fun w hw => hts w (List.mem_cons_of_mem _ hw), fun q h => Or.inr h, Nat.le_refl _, Nat.le_refl _, Nat.zero_le _, Nat.zero_le _⟩ ⟨rfl, hK⟩
    (fun {v σ' pc n L} hnar hpost d H locs ls hP' hD' hS' hl' => W.zret hx hb hr hnar (fun t ht hW => ⟨⟨v, σ', rfl, hpost, by rw [ht]; exact hP', va_K.moved hW.alike hK, hD'⟩, hS'.F ht⟩) hS'.2.2 d.1)
  exact key s.heap [] _ hP hD hS (by rw [show (e_c _).maxLocals = mL from hml]; exact hl)
theorem XCv.of {g : Bool} {l : Launch} {y : MethodName} {b : ByteArray} {mL : Nat} {fr lo : Nat} {avs : (Nat → Nat) → List Value} {σ : XS} {Post : XS → Prop} (hy : plainName y.cls = true) (hcls : y.cls = xC g) (hc : ∀ q, (avs q).all (fun v => v.category == 1) = true) (hn : ∀ q, Nat.ble (avs q).length mL = true)
    (body : ∀ (E : XE) (q : Nat → Nat) (cA : Nat → ClassId), e_l E = l → XOk E b mL (xC g) fr lo → XCl E g q cA → XRv E b Post → Wx E 0 (avs q) [] σ) : XCv g l y b mL fr lo avs σ Post := by
  intro D q cA sz
  refine Met.ofW (cc := b) (maxL := mL) (ret := none) hy rfl ?_
  intro p e s m args below meth c s₁ B hml hv
  obtain ⟨rfl, hsz, hP, hK, hD0⟩ := hv
  subst hsz
  have hx := B.exec
  have hb := B.bytes
  have hr := B.returns
  have hts := atoms_spec (ws := .code y b mL none :: lw_g) B.pre
  have hown : s.vm.findClass (xC g) = some m.cls := by rw [← hcls]; exact findClass_of_methodNamed B.named
  have hlocks := B.notSynchronized
  have hD := hD0.self (sz := s.heap.size)
  have hS : va_S (va_A (xw g q cA σ) s.heap.size) s.heap s.heap [] := va_S.rf
  have hcat : ∀ v ∈ avs q, v.category = 1 := fun v hv => by simpa using List.all_eq_true.mp (hc q) v hv
  have hl := xl_entry (avs q) mL hcat (Nat.le_of_ble_eq_true (hn q))
  rw [lg_entry_eq]
  have key := body (p, l, e, (headSpec (.code y b mL none :: lw_g) (xR fr lo)).room, s, m, (avs q).toArray, below, meth, c, 0, 0, D, va_A (xw g q cA σ) s.heap.size, xw g q cA, MQ below (va_Qv Post (XPost g D q cA s.heap.size σ) (va_A (xw g q cA σ) s.heap.size)) (avs q).toArray s 0 0 (va_A (xw g q cA σ) s.heap.size)) q cA rfl
    ⟨hx, hb, hml, hown, fun w hw => hts w (List.mem_cons_of_mem _ hw), fun q h => Or.inr h, Nat.le_refl _, Nat.le_refl _, Nat.zero_le _, Nat.zero_le _⟩ ⟨rfl, hK⟩
    (fun {σ' pc n L} hpost d H locs ls hP' hD' hS' hl' => W.vret hx hb hr (fun t ht hW => ⟨⟨σ', rfl, hpost, by rw [ht]; exact hP', va_K.moved hW.alike hK, hD'⟩, hS'.F ht⟩) hS'.2.2 d.1)
  exact key s.heap [] _ hP hD hS (by rw [show (e_c _).maxLocals = mL from hml]; exact hl)
theorem XPre_blind (g : Bool) (D : va_G) (q : Nat → Nat) (cA : Nat → ClassId) (sz : Nat) (σ : XS) (av : List Value) : FrameBlind (va_Pc av (XPre g D q cA sz σ)) := by
  intro a U gg mk h
  obtain ⟨q0, q1, qP, qK, qD⟩ := h
  exact ⟨q0, q1, qP, va_K.moved (u := U) (U := U.calling gg mk a) (Vm.Alike.refl U.vm) qK, qD⟩
theorem xfree {A : Nat → Prop} {ws : va_W} {H0 H : Heap} {locs : List Loc} (hD : va_D A ws) (hS : va_S A H0 H locs) (hA : ∀ q, H0.size ≤ q → A q) : ∀ q, va_A ws H.size q → A q := by
  intro q h
  rcases h with ⟨k, e, h⟩ | h
  · exact hD.2 k (q, e) h
  · exact hA q (Nat.le_trans hS.1 h)
theorem xV_good {own C : String} {idx : Nat} {y : MethodName} {b : ByteArray} {mL : Nat} {ret : Option FieldType} {n : Nat} (h : xVw own C idx y b mL ret n) : GoodIn lw_g (wsV own idx C y (.code y b mL ret :: lw_g)) := by
  obtain ⟨h1, h2, h3, h4, h5, -⟩ := h
  intro w hw
  have hm : w ∈ lw_g := by
    simp only [wsV, List.cons_append, List.nil_append, List.mem_cons] at hw
    rcases hw with rfl | rfl | rfl | rfl | rfl | hw
    · exact h1
    · exact h2
    · exact h3
    · exact h4
    · exact h5
    · exact hw
  exact ⟨hm, good_tbl w hm⟩
theorem xS_good {own C : String} {idx : Nat} {y : MethodName} {b : ByteArray} {mL : Nat} {ret : Option FieldType} {n : Nat} (h : xSw own C idx y b mL ret n) (hc : y.cls = C) : GoodIn lw_g (va_wsS own idx y (.code y b mL ret :: lw_g)) := by
  obtain ⟨h1, h2, h3, h5, -⟩ := h
  intro w hw
  have hm : w ∈ lw_g := by
    simp only [va_wsS, List.cons_append, List.nil_append, List.mem_cons] at hw
    rcases hw with rfl | rfl | rfl | rfl | hw
    · exact h1
    · exact h2
    · rw [hc]; exact h3
    · exact h5
    · exact hw
  exact ⟨hm, good_tbl w hm⟩
section XH
variable {E : XE} {cc : ByteArray} {nL fr lo pc n : Nat} {g : Bool} {q : Nat → Nat} {cA : Nat → ClassId} {L rest : List Value} {σ : XS}
theorem x_callVi (C : XOk E cc nL (xC g) fr lo) (K : XCl E g q cA) {y : MethodName} {b : ByteArray} {mL fr' lo' idx np : Nat} {ret : FieldType} {avs : (Nat → Nat) → List Value} {Post : Int32 → XS → Prop} {As st : List Value} (hw : xVw (xC g) (xC g) idx y b mL (some ret) np) (hc : XCi g (e_l E) y b mL ret fr' lo' avs σ Post) (hav : avs q = .ref (q 0) :: As) (hnp : As.length = np) (hst : st = As.reverse ++ .ref (q 0) :: rest) (hR : Nat.ble (fr' + 1) fr = true) (hR2 : Nat.ble (8 + (mL + 11) + lo') lo = true) (hrest : Nat.ble ((rest.map fun v => v.category).sum) 8 = true) (d : xd cc pc (.invokevirtual idx) 3 n) (kk : ∀ (r : Int32) (σ' : XS), Post r σ' → Wx E n L (.int r :: rest) σ') : Wx E pc L st σ := by
  obtain ⟨d, rfl⟩ := d
  subst hst
  intro H locs ls hP hD hS hl
  have hP' := hP; have hD' := hD
  rw [K.1] at hP' hD'
  have hF := xfree hD' hS C.2.2.2.2.2.1
  have hm := hc (e_D E) q cA H.size
  rw [hav] at hm
  obtain ⟨w1, w2, w3, w4, w5, w6, w7, w8, w9⟩ := id hw
  refine va_calli (va_runV (As := As) (rest := rest) ⟨C.1, C.2.1, C.2.2.1, C.2.2.2.1, C.2.2.2.2.1⟩ hm (cwV np C.2.2.2.2.1 (xV_good hw) rfl rfl rfl ⟨w6, w7, w8, w9⟩ ⟨Nat.le_trans (Nat.le_of_ble_eq_true hR) C.2.2.2.2.2.2.1, Nat.le_trans (Nat.le_of_ble_eq_true hR2) C.2.2.2.2.2.2.2.1⟩) ⟨XPre_blind _ _ _ _ _ _ _, va_recv K.2 hP' (xcl g) (xw_0 g q cA σ), fun U hU hW => ⟨rfl, by rw [hU], by rw [hU]; exact hP', va_K.moved hW.alike K.2, hD'.weaken (fun _ _ _ _ => trivial)⟩⟩ rfl hnp (hl.1.trans C.2.2.1) rfl (lv_room (Nat.le_of_ble_eq_true hrest)) d ⟨C.2.2.2.2.2.2.2.2.1, C.2.2.2.2.2.2.2.2.2⟩) hS (fun q _ h => hF q h) hF (fun r σ' t H1 locs1 ht hvm hpost hB hz1 hk1 hS1 => ?_)
  obtain ⟨hP1, hK1, hD1⟩ := hB
  rw [ht] at hP1
  exact kk r σ' hpost H1 locs1 ls (by rw [K.1]; exact hP1) (by rw [K.1]; exact hD1.weaken (fun k z _ h => hF z.1 h)) hS1 hl
theorem x_callVv (C : XOk E cc nL (xC g) fr lo) (K : XCl E g q cA) {y : MethodName} {b : ByteArray} {mL fr' lo' idx np : Nat} {avs : (Nat → Nat) → List Value} {Post : XS → Prop} {As st : List Value} (hw : xVw (xC g) (xC g) idx y b mL none np) (hc : XCv g (e_l E) y b mL fr' lo' avs σ Post) (hav : avs q = .ref (q 0) :: As) (hnp : As.length = np) (hst : st = As.reverse ++ .ref (q 0) :: rest) (hR : Nat.ble (fr' + 1) fr = true) (hR2 : Nat.ble (8 + (mL + 11) + lo') lo = true) (hrest : Nat.ble ((rest.map fun v => v.category).sum) 8 = true) (d : xd cc pc (.invokevirtual idx) 3 n) (kk : ∀ (σ' : XS), Post σ' → Wx E n L rest σ') : Wx E pc L st σ := by
  obtain ⟨d, rfl⟩ := d
  subst hst
  intro H locs ls hP hD hS hl
  have hP' := hP; have hD' := hD
  rw [K.1] at hP' hD'
  have hF := xfree hD' hS C.2.2.2.2.2.1
  have hm := hc (e_D E) q cA H.size
  rw [hav] at hm
  obtain ⟨w1, w2, w3, w4, w5, w6, w7, w8, w9⟩ := id hw
  refine va_callv (va_runV (As := As) (rest := rest) ⟨C.1, C.2.1, C.2.2.1, C.2.2.2.1, C.2.2.2.2.1⟩ hm (cwV np C.2.2.2.2.1 (xV_good hw) rfl rfl rfl ⟨w6, w7, w8, w9⟩ ⟨Nat.le_trans (Nat.le_of_ble_eq_true hR) C.2.2.2.2.2.2.1, Nat.le_trans (Nat.le_of_ble_eq_true hR2) C.2.2.2.2.2.2.2.1⟩) ⟨XPre_blind _ _ _ _ _ _ _, va_recv K.2 hP' (xcl g) (xw_0 g q cA σ), fun U hU hW => ⟨rfl, by rw [hU], by rw [hU]; exact hP', va_K.moved hW.alike K.2, hD'.weaken (fun _ _ _ _ => trivial)⟩⟩ rfl hnp (hl.1.trans C.2.2.1) rfl (lv_room (Nat.le_of_ble_eq_true hrest)) d ⟨C.2.2.2.2.2.2.2.2.1, C.2.2.2.2.2.2.2.2.2⟩) hS (fun q _ h => hF q h) hF (fun σ' t H1 locs1 ht hvm hpost hB hz1 hk1 hS1 => ?_)
  obtain ⟨hP1, hK1, hD1⟩ := hB
  rw [ht] at hP1
  exact kk σ' hpost H1 locs1 ls (by rw [K.1]; exact hP1) (by rw [K.1]; exact hD1.weaken (fun k z _ h => hF z.1 h)) hS1 hl
theorem x_callSi (C : XOk E cc nL (xC g) fr lo) (K : XCl E g q cA) {y : MethodName} {b : ByteArray} {mL fr' lo' idx np : Nat} {ret : FieldType} {avs : (Nat → Nat) → List Value} {Post : Int32 → XS → Prop} {As st : List Value} (hw : xSw (xC g) (xC g) idx y b mL (some ret) np) (hc : XCi g (e_l E) y b mL ret fr' lo' avs σ Post) (hav : avs q = As) (hnp : As.length = np) (hst : st = As.reverse ++ rest) (hR : Nat.ble (fr' + 1) fr = true) (hR2 : Nat.ble (8 + (mL + 11) + lo') lo = true) (hrest : Nat.ble ((rest.map fun v => v.category).sum) 8 = true) (d : xd cc pc (.invokestatic idx) 3 n) (kk : ∀ (r : Int32) (σ' : XS), Post r σ' → Wx E n L (.int r :: rest) σ') : Wx E pc L st σ := by
  obtain ⟨d, rfl⟩ := d
  subst hst
  intro H locs ls hP hD hS hl
  have hP' := hP; have hD' := hD
  rw [K.1] at hP' hD'
  have hF := xfree hD' hS C.2.2.2.2.2.1
  have hm := hc (e_D E) q cA H.size
  rw [hav] at hm
  obtain ⟨w1, w2, w3, w4, w6, w7, w8, w9⟩ := id hw
  refine va_calli (va_runS (As := As) (rest := rest) ⟨C.1, C.2.1, C.2.2.1, C.2.2.2.1, C.2.2.2.2.1⟩ hm (va_cwS np C.2.2.2.2.1 (xS_good hw w6) rfl rfl rfl ⟨w7, w8, w9⟩ ⟨Nat.le_trans (Nat.le_of_ble_eq_true hR) C.2.2.2.2.2.2.1, Nat.le_trans (Nat.le_of_ble_eq_true hR2) C.2.2.2.2.2.2.2.1⟩) ⟨XPre_blind _ _ _ _ _ _ _, fun U hU hW => ⟨rfl, by rw [hU], by rw [hU]; exact hP', va_K.moved hW.alike K.2, hD'.weaken (fun _ _ _ _ => trivial)⟩⟩ rfl hnp (hl.1.trans C.2.2.1) rfl (lv_room (Nat.le_of_ble_eq_true hrest)) d ⟨C.2.2.2.2.2.2.2.2.1, C.2.2.2.2.2.2.2.2.2⟩) hS (fun q _ h => hF q h) hF (fun r σ' t H1 locs1 ht hvm hpost hB hz1 hk1 hS1 => ?_)
  obtain ⟨hP1, hK1, hD1⟩ := hB
  rw [ht] at hP1
  exact kk r σ' hpost H1 locs1 ls (by rw [K.1]; exact hP1) (by rw [K.1]; exact hD1.weaken (fun k z _ h => hF z.1 h)) hS1 hl
end XH
end
section
/-! small laws of numbers, loops -/
def xall : Nat → (Nat → Bool) → Bool
  | 0, _ => true
  | n + 1, f => xall n f && f n
def xany : Nat → (Nat → Bool) → Bool
  | 0, _ => false
  | n + 1, f => xany n f || f n
theorem xall_iff {n : Nat} {f : Nat → Bool} : xall n f = true ↔ ∀ i, i < n → f i = true := by
  induction n with
  | zero => simp [xall]
  | succ n ih =>
    simp only [xall, Bool.and_eq_true, ih]
    constructor
    · intro h i hi
      rcases Nat.lt_succ_iff_lt_or_eq.mp hi with h1 | h1
      · exact h.1 i h1
      · rw [h1]; exact h.2
    · intro h
      exact ⟨fun i hi => h i (by omega), h n (by omega)⟩
theorem xany_iff {n : Nat} {f : Nat → Bool} : xany n f = true ↔ ∃ i, i < n ∧ f i = true := by
  induction n with
  | zero => simp [xany]
  | succ n ih =>
    simp only [xany, Bool.or_eq_true, ih]
    constructor
    · rintro (⟨i, h1, h2⟩ | h)
      · exact ⟨i, by omega, h2⟩
      · exact ⟨n, by omega, h⟩
    · rintro ⟨i, h1, h2⟩
      rcases Nat.lt_succ_iff_lt_or_eq.mp h1 with h3 | h3
      · exact Or.inl ⟨i, h3, h2⟩
      · rw [← h3]; exact Or.inr h2
theorem xall_congr {n : Nat} {f g : Nat → Bool} (h : ∀ i, i < n → f i = g i) : xall n f = xall n g := by
  induction n with
  | zero => rfl
  | succ n ih => simp only [xall]; rw [ih (fun i hi => h i (by omega)), h n (by omega)]
theorem xany_congr {n : Nat} {f g : Nat → Bool} (h : ∀ i, i < n → f i = g i) : xany n f = xany n g := by
  induction n with
  | zero => rfl
  | succ n ih => simp only [xany]; rw [ih (fun i hi => h i (by omega)), h n (by omega)]
theorem xany_mono {n m : Nat} {f : Nat → Bool} (h : n ≤ m) (hn : xany n f = true) : xany m f = true := by
  obtain ⟨i, h1, h2⟩ := xany_iff.mp hn
  exact xany_iff.mpr ⟨i, by omega, h2⟩
theorem x_for (V : Nat → Prop) (N : Nat) (hs : ∀ i, i ≤ N → (i < N → V (i + 1)) → V i) : ∀ i, i ≤ N → V i := by
  have key : ∀ n i, i ≤ N → N ≤ i + n → V i := by
    intro n
    induction n with
    | zero => intro i h1 h2; exact hs i h1 (fun h => absurd h (by omega))
    | succ n ih => intro i h1 h2; exact hs i h1 (fun h => ih (i + 1) (by omega) (by omega))
  exact fun i hi => key N i hi (by omega)
theorem x_forS {α : Type} (V : Nat → α → Prop) (I : Nat → α → Prop) (N : Nat) (hs : ∀ i a, i ≤ N → I i a → (∀ a', i < N → I (i + 1) a' → V (i + 1) a') → V i a) : ∀ i a, i ≤ N → I i a → V i a := by
  have key : ∀ n i a, i ≤ N → N ≤ i + n → I i a → V i a := by
    intro n
    induction n with
    | zero => intro i a h1 h2 hI; exact hs i a h1 hI (fun a' h => absurd h (by omega))
    | succ n ih => intro i a h1 h2 hI; exact hs i a h1 hI (fun a' h hI' => ih (i + 1) a' (by omega) (by omega) hI')
  exact fun i a hi hI => key N i a hi (by omega) hI
theorem x_while {α : Type} (V : α → Prop) (I : α → Prop) (μ : α → Nat) (hs : ∀ a, I a → (∀ a', μ a' < μ a → I a' → V a') → V a) : ∀ a, I a → V a := by
  have key : ∀ n a, μ a < n → I a → V a := by
    intro n
    induction n with
    | zero => intro a h; exact absurd h (by omega)
    | succ n ih => intro a h hI; exact hs a hI (fun a' h' hI' => ih a' (by omega) hI')
  exact fun a hI => key (μ a + 1) a (by omega) hI
theorem xuu (σ : XS) (k : Nat) (f g : Nat → Int32) : va_up (va_up σ k f) k g = va_up σ k g := by
  funext j
  by_cases h : j = k
  · simp [va_up, h]
  · simp [va_up, h]
theorem xus (σ : XS) (k : Nat) (f : Nat → Int32) : va_up σ k f k = f := by simp [va_up]
theorem xun (σ : XS) {k j : Nat} (h : j ≠ k) (f : Nat → Int32) : va_up σ k f j = σ j := by simp [va_up, h]
theorem xueq (σ : XS) (k : Nat) : va_up σ k (σ k) = σ := by
  funext j
  by_cases h : j = k
  · rw [h, xus]
  · rw [xun σ h]
theorem xucomm (σ : XS) {k j : Nat} (h : k ≠ j) (f g : Nat → Int32) : va_up (va_up σ k f) j g = va_up (va_up σ j g) k f := by
  funext i
  by_cases h1 : i = j
  · subst h1
    rw [xus, xun _ (Ne.symm h), xus]
  · rw [xun _ h1]
    by_cases h2 : i = k
    · subst h2
      rw [xus, xus]
    · rw [xun _ h2, xun _ h2, xun _ h1]
theorem upd_s (f : Nat → Int32) (k : Nat) (x : Int32) : upd f k x k = x := by simp [upd]
theorem upd_n (f : Nat → Int32) {k j : Nat} (x : Int32) (h : j ≠ k) : upd f k x j = f j := by simp [upd, h]
theorem nI_i16 {a : Nat} (h : a < 32768) : (nI a).toInt16.toInt32 = nI a := by
  have h1 : (nI a).toInt = (a : Int) := nI_toInt (by omega)
  apply Int32.toInt_inj.mp
  rw [Int16.toInt_toInt32, Int32.toInt_toInt16, h1, Int.bmod_eq_of_le (by omega) (by omega)]
theorem nI_i8 {a : Nat} (h : a < 128) : (nI a).toInt8.toInt32 = nI a := by
  have h1 : (nI a).toInt = (a : Int) := nI_toInt (by omega)
  apply Int32.toInt_inj.mp
  rw [Int8.toInt_toInt32, Int32.toInt_toInt8, h1, Int.bmod_eq_of_le (by omega) (by omega)]
theorem nI_fit16 {a : Nat} (h : a < 32768) : fits .short (.int (nI a)) = true := by
  have h1 : (nI a).toInt = (a : Int) := nI_toInt (by omega)
  simp only [fits, Bool.and_eq_true, decide_eq_true_eq]
  refine ⟨Int32.le_iff_toInt_le.mpr ?_, Int32.le_iff_toInt_le.mpr ?_⟩
  · rw [h1, show (-32768 : Int32).toInt = -32768 by decide]; omega
  · rw [h1, show (32767 : Int32).toInt = 32767 by decide]; omega
theorem nI_inj {a b : Nat} (ha : a < 2 ^ 31) (hb : b < 2 ^ 31) (h : nI a = nI b) : a = b := (nI_eq ha hb).mp h
/-- an argument in 0..h -/
def inB (v : Int32) (h : Nat) : Bool := decide (¬ v < 0) && decide (v ≤ nI h)
def ltB (v : Int32) (h : Nat) : Bool := decide (¬ v < 0) && decide (v < nI h)
theorem inB_iff {v : Int32} {h : Nat} (hh : h < 2 ^ 31) : inB v h = true ↔ ∃ j, j ≤ h ∧ v = nI j := by
  simp only [inB, Bool.and_eq_true, decide_eq_true_eq]
  constructor
  · rintro ⟨h1, h2⟩
    exact nI_of2 (nI_toInt hh) h1 h2
  · rintro ⟨j, h1, rfl⟩
    exact ⟨nI_pos (by omega), nI_le h1 hh⟩
theorem ltB_iff {v : Int32} {h : Nat} (hh : h < 2 ^ 31) : ltB v h = true ↔ ∃ j, j < h ∧ v = nI j := by
  simp only [ltB, Bool.and_eq_true, decide_eq_true_eq]
  constructor
  · rintro ⟨h1, h2⟩
    obtain ⟨j, h3, rfl⟩ := nI_of h1
    exact ⟨j, (nI_ltI h3 hh).mp h2, rfl⟩
  · rintro ⟨j, h1, rfl⟩
    exact ⟨nI_pos (by omega), nI_lt h1 hh⟩
theorem ltB_nI {a h : Nat} (ha : a < 2 ^ 31) (hh : h < 2 ^ 31) : ltB (nI a) h = decide (a < h) := by
  simp only [ltB]
  rw [decide_eq_true (nI_pos ha), Bool.true_and]
  exact decide_eq_decide.mpr (nI_ltI ha hh)
section XD
variable {E : XE} {cc : ByteArray} {nL fr lo pc n : Nat} {own : String} {L st : List Value} {σ : XS}
theorem x_idecN (C : XOk E cc nL own fr lo) {k a : Nat} (h : L[k]? = some (.int (nI a))) (ha : 0 < a) (hn : Nat.blt k nL = true) (d : xd cc pc (.iinc k (-1)) 3 n) (kk : Wx E n (xst L k (.int (nI (a - 1)))) st σ) : Wx E pc L st σ := by
  refine x_iinc C h hn d ?_
  rw [show (nI a + Int32.ofInt (-1)) = nI (a - 1) from sb_m1 ha]
  exact kk
/-- a value on top may be named otherwise -/
theorem x_top {x y : Int32} (h : x = y) (kk : Wx E pc L (.int y :: st) σ) : Wx E pc L (.int x :: st) σ := by
  subst h; exact kk
end XD
end
section
/-! the mathematical state: a net, the marking now -/
abbrev XNet : Type := Nat × Nat × (Nat → Nat) × (Nat → Nat) × (Nat → Nat → Nat) × (Nat → Nat → Nat)
abbrev nP (N : XNet) : Nat := N.1
abbrev nT (N : XNet) : Nat := N.2.1
abbrev nfi (N : XNet) : Nat → Nat := N.2.2.1
abbrev ngo (N : XNet) : Nat → Nat := N.2.2.2.1
abbrev ntk (N : XNet) : Nat → Nat → Nat := N.2.2.2.2.1
abbrev ngv (N : XNet) : Nat → Nat → Nat := N.2.2.2.2.2
def NOK (N : XNet) : Prop := nP N ≤ 5 ∧ nT N ≤ 6 ∧ (∀ p, nfi N p ≤ 20) ∧ (∀ p, ngo N p ≤ 20) ∧ (∀ t p, ntk N t p ≤ 5) ∧ (∀ t p, ngv N t p ≤ 5) ∧ (∀ p, nP N ≤ p → nfi N p = 0) ∧ (∀ p, nP N ≤ p → ngo N p = 0) ∧ (∀ t p, nP N ≤ p → ntk N t p = 0) ∧ (∀ t p, nP N ≤ p → ngv N t p = 0)
/-- the class holds the net -/
def RX (N : XNet) (σ : XS) : Prop := σ 0 0 = nI (nP N) ∧ σ 1 0 = nI (nT N) ∧ (∀ p, p < 5 → σ 2 p = nI (nfi N p)) ∧ (∀ p, p < 5 → σ 4 p = nI (ngo N p)) ∧ (∀ t p, t < 6 → p < 5 → σ 5 (5 * t + p) = nI (ntk N t p)) ∧ (∀ t p, t < 6 → p < 5 → σ 6 (5 * t + p) = nI (ngv N t p))
/-- the model holds the net -/
def RM (N : XNet) (σ : XS) : Prop := σ 0 0 = nI (nP N) ∧ σ 3 0 = nI (nT N) ∧ (∀ p, p < 5 → σ 1 p = nI (nfi N p)) ∧ (∀ p, p < 5 → σ 2 p = nI (ngo N p)) ∧ (∀ t p, t < 6 → p < 5 → σ 4 (5 * t + p) = nI (ntk N t p)) ∧ (∀ t p, t < 6 → p < 5 → σ 5 (5 * t + p) = nI (ngv N t p))
/-- an array holds a marking from place fr on -/
def mkAt (a : Nat → Int32) (fr : Nat) (m : Nat → Nat) : Prop := ∀ p, p < 5 → a (fr + p) = nI (m p)
def mk0 (a : Nat → Int32) (m : Nat → Nat) : Prop := ∀ p, p < 5 → a p = nI (m p)
theorem RX.keep {N : XNet} {σ σ' : XS} (h : RX N σ) (hk : ∀ k, k ≤ 6 → k ≠ 3 → σ' k = σ k) : RX N σ' := by
  obtain ⟨h0, h1, h2, h3, h4, h5⟩ := h
  refine ⟨?_, ?_, ?_, ?_, ?_, ?_⟩
  · rw [hk 0 (by omega) (by omega)]; exact h0
  · rw [hk 1 (by omega) (by omega)]; exact h1
  · rw [hk 2 (by omega) (by omega)]; exact h2
  · rw [hk 4 (by omega) (by omega)]; exact h3
  · rw [hk 5 (by omega) (by omega)]; exact h4
  · rw [hk 6 (by omega) (by omega)]; exact h5
theorem RM.keep {N : XNet} {σ σ' : XS} (h : RM N σ) (hk : ∀ k, k ≤ 5 → σ' k = σ k) : RM N σ' := by
  obtain ⟨h0, h1, h2, h3, h4, h5⟩ := h
  refine ⟨?_, ?_, ?_, ?_, ?_, ?_⟩
  · rw [hk 0 (by omega)]; exact h0
  · rw [hk 3 (by omega)]; exact h1
  · rw [hk 1 (by omega)]; exact h2
  · rw [hk 2 (by omega)]; exact h3
  · rw [hk 4 (by omega)]; exact h4
  · rw [hk 5 (by omega)]; exact h5
/-- a ≤ b at all five places -/
def leM (a b : Nat → Nat) : Bool := xall 5 (fun p => decide (a p ≤ b p))
theorem leM_iff {a b : Nat → Nat} : leM a b = true ↔ ∀ p, p < 5 → a p ≤ b p := by
  simp [leM, xall_iff]
theorem leM_P {P : Nat} (hP : P ≤ 5) {a b : Nat → Nat} (h : ∀ p, P ≤ p → p < 5 → a p ≤ b p) : xall P (fun p => decide (a p ≤ b p)) = leM a b := by
  apply Bool.eq_iff_iff.mpr
  rw [leM_iff]
  simp only [xall_iff, decide_eq_true_eq]
  constructor
  · intro h1 p hp
    by_cases h2 : p < P
    · exact h1 p h2
    · exact h p (by omega) hp
  · intro h1 p hp
    exact h1 p (by omega)
/-- one firing -/
def stM (N : XNet) (t : Nat) (m : Nat → Nat) : Nat → Nat := fun p => m p + ngv N t p - ntk N t p
theorem nI_fire {m g t : Nat} (h : t ≤ m) : nI m + (nI g - nI t) = nI (m + g - t) := by
  have e : m + g - t = (m - t) + g := by omega
  rw [e, ← nI_add, ← pk_sub h]
  apply Int32.toBitVec_inj.mp
  simp only [Int32.toBitVec_add, Int32.toBitVec_sub]
  rw [BitVec.sub_eq_add_neg, BitVec.sub_eq_add_neg, BitVec.add_assoc, BitVec.add_comm (nI g).toBitVec]
theorem nI_fire2 {m g t : Nat} (h : t ≤ m) : nI (m + g) - nI t = nI (m + g - t) := pk_sub (by omega)
/-! what the calls that tell the net do -/
def plO (N : XNet) (v : Int32) : Bool := decide (nP N ≠ 5) && inB v 20
def plN (N : XNet) (v : Int32) : XNet := if plO N v then (nP N + 1, nT N, fun p => if p = nP N then v.toNatClampNeg else nfi N p, ngo N, ntk N, ngv N) else N
def plR (N : XNet) (v : Int32) : Int32 := if plO N v then nI (nP N) else -1
def trO (N : XNet) : Bool := decide (nT N ≠ 6)
def trN (N : XNet) : XNet := if trO N then (nP N, nT N + 1, nfi N, ngo N, ntk N, ngv N) else N
def trR (N : XNet) : Int32 := if trO N then nI (nT N) else -1
def arO (N : XNet) (a b c d : Int32) : Bool := ltB a (nT N) && ltB b (nP N) && inB c 5 && inB d 5
def up2 (f : Nat → Nat → Nat) (t p v : Nat) : Nat → Nat → Nat := fun i j => if i = t ∧ j = p then v else f i j
def arN (N : XNet) (a b c d : Int32) : XNet := if arO N a b c d then (nP N, nT N, nfi N, ngo N, up2 (ntk N) a.toNatClampNeg b.toNatClampNeg c.toNatClampNeg, up2 (ngv N) a.toNatClampNeg b.toNatClampNeg d.toNatClampNeg) else N
def tgO (N : XNet) (a b : Int32) : Bool := ltB a (nP N) && inB b 20
def tgN (N : XNet) (a b : Int32) : XNet := if tgO N a b then (nP N, nT N, nfi N, fun p => if p = a.toNatClampNeg then b.toNatClampNeg else ngo N p, ntk N, ngv N) else N
def fiO (N : XNet) (w : Nat → Nat) (v : Int32) : Bool := ltB v (nT N) && leM (ntk N v.toNatClampNeg) w
def fiW (N : XNet) (w : Nat → Nat) (v : Int32) : Nat → Nat := if fiO N w v then stM N v.toNatClampNeg w else w
def tkR (N : XNet) (w : Nat → Nat) (v : Int32) : Int32 := if ltB v (nP N) then nI (w v.toNatClampNeg) else -1
theorem NOK.pl {N : XNet} (h : NOK N) (v : Int32) : NOK (plN N v) := by
  unfold plN
  split
  · rename_i ho
    simp only [plO, Bool.and_eq_true, decide_eq_true_eq] at ho
    obtain ⟨j, hj, rfl⟩ := (inB_iff (by omega)).mp ho.2
    obtain ⟨a1, a2, a3, a4, a5, a6, a7, a8, a9, a10⟩ := h
    have e : (nI j).toNatClampNeg = j := nI_clamp (by omega)
    rw [e]
    refine ⟨?_, a2, fun p => ?_, a4, a5, a6, fun p hp => ?_, fun p hp => a8 p ?_, fun t p hp => a9 t p ?_, fun t p hp => a10 t p ?_⟩
    · have := ho.1
      show nP N + 1 ≤ 5
      omega
    · show (if p = nP N then j else nfi N p) ≤ 20
      split
      · exact hj
      · exact a3 p
    · show (if p = nP N then j else nfi N p) = 0
      have hp' : nP N + 1 ≤ p := hp
      rw [if_neg (by omega)]
      exact a7 p (by omega)
    · have hp' : nP N + 1 ≤ p := hp
      omega
    · have hp' : nP N + 1 ≤ p := hp
      omega
    · have hp' : nP N + 1 ≤ p := hp
      omega
  · exact h
theorem NOK.tr {N : XNet} (h : NOK N) : NOK (trN N) := by
  unfold trN
  split
  · rename_i ho
    simp only [trO, decide_eq_true_eq] at ho
    obtain ⟨a1, a2, a3⟩ := h
    refine ⟨a1, ?_, a3⟩
    show nT N + 1 ≤ 6
    omega
  · exact h
theorem NOK.ar {N : XNet} (h : NOK N) (a b c d : Int32) : NOK (arN N a b c d) := by
  unfold arN
  split
  · rename_i ho
    simp only [arO, Bool.and_eq_true] at ho
    obtain ⟨⟨⟨h1, h2⟩, h3⟩, h4⟩ := ho
    obtain ⟨a1, a2, a3, a4, a5, a6, a7, a8, a9, a10⟩ := h
    obtain ⟨t, ht, rfl⟩ := (ltB_iff (by omega)).mp h1
    obtain ⟨p, hp, rfl⟩ := (ltB_iff (by omega)).mp h2
    obtain ⟨x, hx, rfl⟩ := (inB_iff (by omega)).mp h3
    obtain ⟨y, hy, rfl⟩ := (inB_iff (by omega)).mp h4
    rw [nI_clamp (n := t) (by omega), nI_clamp (n := p) (by omega), nI_clamp (n := x) (by omega), nI_clamp (n := y) (by omega)]
    refine ⟨a1, a2, a3, a4, fun i j => ?_, fun i j => ?_, a7, a8, fun i j hj => ?_, fun i j hj => ?_⟩
    · show up2 (ntk N) t p x i j ≤ 5
      unfold up2
      split
      · exact hx
      · exact a5 i j
    · show up2 (ngv N) t p y i j ≤ 5
      unfold up2
      split
      · exact hy
      · exact a6 i j
    · have hj' : nP N ≤ j := hj
      show up2 (ntk N) t p x i j = 0
      unfold up2
      rw [if_neg (by omega)]
      exact a9 i j hj'
    · have hj' : nP N ≤ j := hj
      show up2 (ngv N) t p y i j = 0
      unfold up2
      rw [if_neg (by omega)]
      exact a10 i j hj'
  · exact h
theorem NOK.tg {N : XNet} (h : NOK N) (a b : Int32) : NOK (tgN N a b) := by
  unfold tgN
  split
  · rename_i ho
    simp only [tgO, Bool.and_eq_true] at ho
    obtain ⟨a1, a2, a3, a4, a5, a6, a7, a8, a9, a10⟩ := h
    obtain ⟨p, hp, rfl⟩ := (ltB_iff (by omega)).mp ho.1
    obtain ⟨x, hx, rfl⟩ := (inB_iff (by omega)).mp ho.2
    rw [nI_clamp (n := p) (by omega), nI_clamp (n := x) (by omega)]
    refine ⟨a1, a2, a3, fun j => ?_, a5, a6, a7, fun j hj => ?_, a9, a10⟩
    · show (if j = p then x else ngo N j) ≤ 20
      split
      · exact hx
      · exact a4 j
    · have hj' : nP N ≤ j := hj
      show (if j = p then x else ngo N j) = 0
      rw [if_neg (by omega)]
      exact a8 j hj'
  · exact h
theorem fiW_le {N : XNet} (h : NOK N) {w : Nat → Nat} {B : Nat} (hB : ∀ p, w p ≤ B) (v : Int32) : ∀ p, fiW N w v p ≤ B + 5 := by
  intro p
  unfold fiW
  split
  · have := h.2.2.2.2.2.1 v.toNatClampNeg p
    have := hB p
    show w p + ngv N _ p - ntk N _ p ≤ B + 5
    omega
  · have := hB p
    omega
theorem fiW_0 {N : XNet} (h : NOK N) {w : Nat → Nat} (hw : ∀ p, nP N ≤ p → w p = 0) (v : Int32) : ∀ p, nP N ≤ p → fiW N w v p = 0 := by
  intro p hp
  unfold fiW
  split
  · have e1 := h.2.2.2.2.2.2.2.2.1 v.toNatClampNeg p hp
    have e2 := h.2.2.2.2.2.2.2.2.2 v.toNatClampNeg p hp
    have e3 := hw p hp
    show w p + ngv N _ p - ntk N _ p = 0
    omega
  · exact hw p hp
end
section
/-! rounds, mathematically: lists of least markings -/
abbrev Mk : Type := Nat → Nat
theorem leM_refl (a : Mk) : leM a a = true := leM_iff.mpr (fun _ _ => Nat.le_refl _)
theorem leM_trans {a b c : Mk} (h1 : leM a b = true) (h2 : leM b c = true) : leM a c = true := leM_iff.mpr (fun p hp => Nat.le_trans (leM_iff.mp h1 p hp) (leM_iff.mp h2 p hp))
/-- w covers one of A -/
def anyLe (A : List Mk) (w : Mk) : Bool := A.any (fun m => leM m w)
theorem anyLe_iff {A : List Mk} {w : Mk} : anyLe A w = true ↔ ∃ m, m ∈ A ∧ leM m w = true := by simp [anyLe]
def addL (A : List Mk) (w : Mk) : List Mk := if anyLe A w then A else A.filter (fun m => !leM w m) ++ [w]
theorem addL_mem {A : List Mk} {w m : Mk} (h : m ∈ addL A w) : m ∈ A ∨ m = w := by
  unfold addL at h
  split at h
  · exact Or.inl h
  · rcases List.mem_append.mp h with h | h
    · exact Or.inl (List.mem_filter.mp h).1
    · exact Or.inr (List.mem_singleton.mp h)
theorem addL_len (A : List Mk) (w : Mk) : (addL A w).length ≤ A.length + 1 := by
  unfold addL
  split
  · omega
  · rw [List.length_append, List.length_singleton]
    have := List.length_filter_le (fun m => !leM w m) A
    omega
theorem addL_w (A : List Mk) (w : Mk) : anyLe (addL A w) w = true := by
  unfold addL
  split
  · assumption
  · exact anyLe_iff.mpr ⟨w, List.mem_append_right _ (List.mem_singleton.mpr rfl), leM_refl w⟩
theorem addL_mono {A : List Mk} {w x : Mk} (h : anyLe A x = true) : anyLe (addL A w) x = true := by
  unfold addL
  split
  · exact h
  · obtain ⟨m, h1, h2⟩ := anyLe_iff.mp h
    by_cases e : leM w m = true
    · exact anyLe_iff.mpr ⟨w, List.mem_append_right _ (List.mem_singleton.mpr rfl), leM_trans e h2⟩
    · exact anyLe_iff.mpr ⟨m, List.mem_append_left _ (List.mem_filter.mpr ⟨h1, by simp [e]⟩), h2⟩
/-- the least marking from which t leads to what covers m -/
def preM (N : XNet) (t : Nat) (m : Mk) : Mk := fun p => ntk N t p + (m p - ngv N t p)
abbrev LS2 : Type := List Mk × Bool
def addS (S : LS2) (w : Mk) : LS2 := (addL S.1 w, S.2 || !anyLe S.1 w)
def gT (N : XNet) (m : Mk) : Nat → LS2 → LS2
  | 0, S => S
  | t + 1, S => addS (gT N m t S) (preM N t m)
def gK (N : XNet) (A : List Mk) : Nat → LS2 → LS2
  | 0, S => S
  | k + 1, S => gT N (A.getD k (fun _ => 0)) (nT N) (gK N A k S)
/-- one more round; whether it has more -/
def stp (N : XNet) (A : List Mk) : LS2 := gK N A A.length (A, false)
def rnd (N : XNet) : Nat → List Mk
  | 0 => [ngo N]
  | i + 1 => (stp N (rnd N i)).1
theorem gT_len (N : XNet) (m : Mk) (S : LS2) : ∀ t, (gT N m t S).1.length ≤ S.1.length + t
  | 0 => Nat.le_refl _
  | t + 1 => by
    have h1 := gT_len N m S t
    have h2 := addL_len (gT N m t S).1 (preM N t m)
    show (addL (gT N m t S).1 (preM N t m)).length ≤ _
    omega
theorem gK_len (N : XNet) (A : List Mk) (S : LS2) : ∀ k, (gK N A k S).1.length ≤ S.1.length + k * nT N
  | 0 => by simp [gK]
  | k + 1 => by
    have h1 := gK_len N A S k
    have h2 := gT_len N (A.getD k (fun _ => 0)) (gK N A k S) (nT N)
    show (gT N _ (nT N) (gK N A k S)).1.length ≤ _
    rw [Nat.succ_mul]
    omega
/-- markings of a round: bounded, nothing at places that aren't there -/
def okM (P B : Nat) (m : Mk) : Prop := (∀ p, m p ≤ B) ∧ ∀ p, P ≤ p → m p = 0
def okL (P B : Nat) (A : List Mk) : Prop := ∀ m, m ∈ A → okM P B m
theorem okM.mono {P B B' : Nat} {m : Mk} (h : okM P B m) (hB : B ≤ B') : okM P B' m := ⟨fun p => Nat.le_trans (h.1 p) hB, h.2⟩
theorem okL.mono {P B B' : Nat} {A : List Mk} (h : okL P B A) (hB : B ≤ B') : okL P B' A := fun m hm => (h m hm).mono hB
theorem okL.add {P B : Nat} {A : List Mk} {w : Mk} (h : okL P B A) (hw : okM P B w) : okL P B (addL A w) := by
  intro m hm
  rcases addL_mem hm with h1 | h1
  · exact h m h1
  · rw [h1]; exact hw
theorem okM.pre {N : XNet} (hN : NOK N) {B t : Nat} {m : Mk} (h : okM (nP N) B m) : okM (nP N) (B + 5) (preM N t m) := by
  refine ⟨fun p => ?_, fun p hp => ?_⟩
  · have := hN.2.2.2.2.1 t p
    have := h.1 p
    show ntk N t p + (m p - ngv N t p) ≤ _
    omega
  · have e1 := hN.2.2.2.2.2.2.2.2.1 t p hp
    have e2 := h.2 p hp
    show ntk N t p + (m p - ngv N t p) = 0
    omega
theorem okL.gT {N : XNet} (hN : NOK N) {B : Nat} {m : Mk} {S : LS2} (hm : okM (nP N) B m) (hS : okL (nP N) (B + 5) S.1) : ∀ t, okL (nP N) (B + 5) (gT N m t S).1
  | 0 => hS
  | t + 1 => (okL.gT hN hm hS t).add (hm.pre hN)
theorem okM0 (P B : Nat) : okM P B (fun _ => 0) := ⟨fun _ => Nat.zero_le _, fun _ _ => rfl⟩
theorem okL.getD {P B : Nat} {A : List Mk} (h : okL P B A) (k : Nat) : okM P B (A.getD k (fun _ => 0)) := by
  by_cases hk : k < A.length
  · rw [List.getD_eq_getElem?_getD, List.getElem?_eq_getElem hk]
    exact h _ (List.getElem_mem hk)
  · rw [List.getD_eq_getElem?_getD, List.getElem?_eq_none (by omega)]
    exact okM0 P B
theorem okL.gK {N : XNet} (hN : NOK N) {B : Nat} {A : List Mk} {S : LS2} (hA : okL (nP N) B A) (hS : okL (nP N) (B + 5) S.1) : ∀ k, okL (nP N) (B + 5) (gK N A k S).1
  | 0 => hS
  | k + 1 => okL.gT hN (hA.getD k) (okL.gK hN hA hS k) (nT N)
theorem okL.stp {N : XNet} (hN : NOK N) {B : Nat} {A : List Mk} (hA : okL (nP N) B A) : okL (nP N) (B + 5) (stp N A).1 := okL.gK hN hA (hA.mono (by omega)) _
theorem okL.rnd {N : XNet} (hN : NOK N) : ∀ i, okL (nP N) (20 + 5 * i) (rnd N i)
  | 0 => by
    intro m hm
    have e : m = ngo N := List.mem_singleton.mp hm
    rw [e]
    exact ⟨hN.2.2.2.1, hN.2.2.2.2.2.2.2.1⟩
  | i + 1 => (okL.stp hN (okL.rnd hN i)).mono (by omega)
/-! what a round covers -/
theorem gT_mono {N : XNet} {m x : Mk} {S : LS2} (h : anyLe S.1 x = true) : ∀ t, anyLe (gT N m t S).1 x = true
  | 0 => h
  | t + 1 => addL_mono (gT_mono h t)
theorem gK_mono {N : XNet} {A : List Mk} {x : Mk} {S : LS2} (h : anyLe S.1 x = true) : ∀ k, anyLe (gK N A k S).1 x = true
  | 0 => h
  | k + 1 => gT_mono (gK_mono h k) _
theorem gT_in {N : XNet} {m x : Mk} {S : LS2} : ∀ {t : Nat}, x ∈ (gT N m t S).1 → x ∈ S.1 ∨ ∃ t', t' < t ∧ x = preM N t' m
  | 0, h => Or.inl h
  | t + 1, h => by
    rcases addL_mem h with h1 | h1
    · rcases gT_in h1 with h2 | ⟨t', h2, h3⟩
      · exact Or.inl h2
      · exact Or.inr ⟨t', by omega, h3⟩
    · exact Or.inr ⟨t, by omega, h1⟩
theorem gK_in {N : XNet} {A : List Mk} {x : Mk} {S : LS2} : ∀ {k : Nat}, k ≤ A.length → x ∈ (gK N A k S).1 → x ∈ S.1 ∨ ∃ b t, b ∈ A ∧ t < nT N ∧ x = preM N t b
  | 0, _, h => Or.inl h
  | k + 1, hk, h => by
    rcases gT_in h with h1 | ⟨t, h2, h3⟩
    · exact gK_in (by omega) h1
    · refine Or.inr ⟨_, t, ?_, h2, h3⟩
      rw [List.getD_eq_getElem?_getD, List.getElem?_eq_getElem (by omega)]
      exact List.getElem_mem _
theorem gT_has {N : XNet} {m : Mk} {S : LS2} : ∀ {t t' : Nat}, t' < t → anyLe (gT N m t S).1 (preM N t' m) = true
  | 0, _, h => absurd h (by omega)
  | t + 1, t', h => by
    by_cases e : t' = t
    · rw [e]; exact addL_w _ _
    · exact addL_mono (gT_has (by omega))
theorem gK_has {N : XNet} {A : List Mk} {S : LS2} : ∀ {k j t : Nat}, j < k → t < nT N → anyLe (gK N A k S).1 (preM N t (A.getD j (fun _ => 0))) = true
  | 0, _, _, h, _ => absurd h (by omega)
  | k + 1, j, t, h, ht => by
    by_cases e : j = k
    · rw [e]; exact gT_has ht
    · exact gT_mono (gK_has (by omega) ht) _
theorem stp_has {N : XNet} {A : List Mk} {b : Mk} (hb : b ∈ A) {t : Nat} (ht : t < nT N) : anyLe (stp N A).1 (preM N t b) = true := by
  obtain ⟨j, hj, rfl⟩ := List.getElem_of_mem hb
  have := gK_has (N := N) (A := A) (S := (A, false)) hj ht
  rw [List.getD_eq_getElem?_getD, List.getElem?_eq_getElem hj] at this
  exact this
theorem stp_mono {N : XNet} {A : List Mk} {x : Mk} (h : anyLe A x = true) : anyLe (stp N A).1 x = true := gK_mono (S := (A, false)) h _
theorem stp_in {N : XNet} {A : List Mk} {x : Mk} (h : x ∈ (stp N A).1) : x ∈ A ∨ ∃ b t, b ∈ A ∧ t < nT N ∧ x = preM N t b := gK_in (S := (A, false)) (Nat.le_refl _) h
/-- whether something came -/
def isNew (A : List Mk) (S : LS2) : Prop := (S.2 = false → S.1 = A) ∧ (S.2 = true → ∃ x, anyLe S.1 x = true ∧ anyLe A x = false) ∧ ∀ x, anyLe A x = true → anyLe S.1 x = true
theorem isNew.add {A : List Mk} {S : LS2} (h : isNew A S) (w : Mk) : isNew A (addS S w) := by
  obtain ⟨h1, h2, h3⟩ := h
  refine ⟨fun e => ?_, fun e => ?_, fun x hx => addL_mono (h3 x hx)⟩
  · simp only [addS, Bool.or_eq_false_iff, Bool.not_eq_false'] at e
    show addL S.1 w = A
    rw [addL, if_pos e.2]
    exact h1 e.1
  · by_cases e2 : S.2 = true
    · obtain ⟨x, a, b⟩ := h2 e2
      exact ⟨x, addL_mono a, b⟩
    · simp only [addS, Bool.or_eq_true, Bool.not_eq_true'] at e
      rcases e with e | e
      · exact absurd e e2
      · refine ⟨w, addL_w _ _, ?_⟩
        cases hA : anyLe A w with
        | false => rfl
        | true => rw [h3 w hA] at e; cases e
theorem isNew.gT {A : List Mk} {S : LS2} {N : XNet} {m : Mk} (h : isNew A S) : ∀ t, isNew A (gT N m t S)
  | 0 => h
  | t + 1 => (h.gT t).add _
theorem isNew.gK {A : List Mk} {N : XNet} {A' : List Mk} {S : LS2} (h : isNew A S) : ∀ k, isNew A (gK N A' k S)
  | 0 => h
  | k + 1 => (h.gK k).gT _
theorem isNew.stp (N : XNet) (A : List Mk) : isNew A (stp N A) := isNew.gK ⟨fun _ => rfl, (fun e => by cases e), fun _ h => h⟩ _
def sameL (A B : List Mk) : Bool := decide (B.length = A.length) && B.all (fun m => anyLe A m)
theorem same_iff (N : XNet) (A : List Mk) : sameL A (stp N A).1 = !(stp N A).2 := by
  obtain ⟨h1, h2, h3⟩ := isNew.stp N A
  cases e : (stp N A).2 with
  | false =>
    rw [h1 e]
    simp only [sameL, decide_true, Bool.true_and, Bool.not_false, List.all_eq_true]
    exact fun m hm => anyLe_iff.mpr ⟨m, hm, leM_refl m⟩
  | true =>
    obtain ⟨x, a, b⟩ := h2 e
    simp only [Bool.not_true]
    cases hs : sameL A (stp N A).1 with
    | false => rfl
    | true =>
      simp only [sameL, Bool.and_eq_true, List.all_eq_true] at hs
      obtain ⟨m, m1, m2⟩ := anyLe_iff.mp a
      obtain ⟨c, c1, c2⟩ := anyLe_iff.mp (hs.2 m m1)
      rw [anyLe_iff.mpr ⟨c, c1, leM_trans c2 m2⟩] at b
      cases b
/-! how the rounds end -/
def fin (N : XNet) (i : Nat) : Bool := anyLe (rnd N i) (nfi N)
def mor (N : XNet) : Nat → Bool
  | 0 => true
  | i + 1 => (stp N (rnd N i)).2
def stop (N : XNet) (i : Nat) : Bool := fin N i || decide (200 < (rnd N i).length) || !mor N i || decide (60 ≤ i)
def rres (N : XNet) (i : Nat) : Int32 := if fin N i then nI 1 else if (rnd N i).length ≤ 200 ∧ mor N i = false then nI 0 else -1
def isEnd (N : XNet) (i : Nat) : Prop := stop N i = true ∧ ∀ j, j < i → stop N j = false
theorem isEnd.one {N : XNet} {i j : Nat} (h1 : isEnd N i) (h2 : isEnd N j) : i = j := by
  rcases Nat.lt_trichotomy i j with h | h | h
  · have := h2.2 i h
    rw [h1.1] at this
    cases this
  · exact h
  · have := h1.2 j h
    rw [h2.1] at this
    cases this
theorem isEnd.le {N : XNet} {i : Nat} (h : isEnd N i) : i ≤ 60 := by
  rcases Nat.lt_or_ge 60 i with h1 | h1
  · have := h.2 60 h1
    simp [stop] at this
  · exact h1
theorem nstop {N : XNet} {i : Nat} (h : stop N i = false) : fin N i = false ∧ (rnd N i).length ≤ 200 ∧ mor N i = true ∧ i < 60 := by
  simp only [stop, Bool.or_eq_false_iff, decide_eq_false_iff_not, Bool.not_eq_false'] at h
  exact ⟨h.1.1.1, by omega, h.1.2, by omega⟩
/-! the row of firings -/
def ldB (N : XNet) (j t : Nat) (x : Mk) : Bool := leM (ntk N t) x && anyLe (rnd N j) (stM N t x)
def fstT (f : Nat → Bool) : Nat → Nat → Nat
  | 0, t => t
  | n + 1, t => if f t then t else fstT f n (t + 1)
theorem fstT_eq {f : Nat → Bool} : ∀ {n s t : Nat}, s ≤ t → t < s + n → f t = true → (∀ t', s ≤ t' → t' < t → f t' = false) → fstT f n s = t
  | 0, s, t, h1, h2, _, _ => absurd h2 (by omega)
  | n + 1, s, t, h1, h2, h3, h4 => by
    unfold fstT
    by_cases e : s = t
    · rw [e, h3]; rfl
    · rw [h4 s (by omega) (by omega)]
      exact fstT_eq (by omega) (by omega) h3 (fun t' a b => h4 t' (by omega) b)
def tOf (N : XNet) (j : Nat) (x : Mk) : Nat := fstT (fun t => ldB N j t x) 6 0
def wx (N : XNet) (i : Nat) : Nat → Mk
  | 0 => nfi N
  | k + 1 => stM N (tOf N (i - k - 1) (wx N i k)) (wx N i k)
def wrow (N : XNet) (i k : Nat) : Nat := tOf N (i - k - 1) (wx N i k)
theorem pre_le {N : XNet} {t : Nat} {b x : Mk} : leM (preM N t b) x = true ↔ leM (ntk N t) x = true ∧ leM b (stM N t x) = true := by
  rw [leM_iff, leM_iff, leM_iff]
  constructor
  · intro h
    refine ⟨fun p hp => ?_, fun p hp => ?_⟩
    · have h1 := h p hp
      simp only [preM] at h1
      omega
    · have h1 := h p hp
      simp only [preM] at h1
      simp only [stM]
      omega
  · intro h p hp
    have h1 := h.1 p hp
    have h2 := h.2 p hp
    simp only [stM] at h2
    simp only [preM]
    omega
theorem lead_ex {N : XNet} {j : Nat} {x : Mk} (h1 : anyLe (rnd N (j + 1)) x = true) (h2 : anyLe (rnd N j) x = false) : ∃ t, t < nT N ∧ ldB N j t x = true := by
  obtain ⟨m, m1, m2⟩ := anyLe_iff.mp h1
  rcases stp_in m1 with h3 | ⟨b, t, b1, ht, rfl⟩
  · rw [anyLe_iff.mpr ⟨m, h3, m2⟩] at h2
    cases h2
  · obtain ⟨c1, c2⟩ := pre_le.mp m2
    refine ⟨t, ht, ?_⟩
    simp only [ldB, Bool.and_eq_true]
    exact ⟨c1, anyLe_iff.mpr ⟨b, b1, c2⟩⟩
theorem lead_not {N : XNet} {j t : Nat} {x : Mk} (ht : t < nT N) (h1 : leM (ntk N t) x = true) (h2 : anyLe (rnd N (j + 1)) x = false) : anyLe (rnd N j) (stM N t x) = false := by
  cases h : anyLe (rnd N j) (stM N t x) with
  | false => rfl
  | true =>
    obtain ⟨b, b1, b2⟩ := anyLe_iff.mp h
    obtain ⟨m, m1, m2⟩ := anyLe_iff.mp (stp_has b1 ht)
    rw [show anyLe (rnd N (j + 1)) x = true from anyLe_iff.mpr ⟨m, m1, leM_trans m2 (pre_le.mpr ⟨h1, b2⟩)⟩] at h2
    cases h2
/-- the least t that leads on: it is there -/
theorem tOf_spec {N : XNet} (hN : NOK N) {j : Nat} {x : Mk} (h1 : anyLe (rnd N (j + 1)) x = true) (h2 : anyLe (rnd N j) x = false) : tOf N j x < nT N ∧ ldB N j (tOf N j x) x = true ∧ ∀ t', t' < tOf N j x → ldB N j t' x = false := by
  obtain ⟨t, ht, hl⟩ := lead_ex h1 h2
  have h6 := hN.2.1
  obtain ⟨k, k1, k2⟩ := pk_least (fun t => ldB N j t x = true) ⟨t, hl⟩
  have hk : k ≤ t := Nat.le_of_not_lt (fun h => k2 t h hl)
  have e : tOf N j x = k := fstT_eq (by omega) (by omega) k1 (fun t' _ h => by simpa using k2 t' h)
  rw [e]
  exact ⟨by omega, k1, fun t' h => by simpa using k2 t' h⟩
/-- along the row: what is reached covers round i-k, and not the one before -/
theorem wx_ok {N : XNet} (hN : NOK N) {i : Nat} (h1 : fin N i = true) (h2 : ∀ j, j < i → fin N j = false) : ∀ k, k ≤ i → anyLe (rnd N (i - k)) (wx N i k) = true ∧ (∀ j, j < i - k → anyLe (rnd N j) (wx N i k) = false) ∧ ∀ p, wx N i k p ≤ 20 + 5 * k
  | 0, _ => ⟨h1, fun j hj => h2 j (by omega), fun p => by have := hN.2.2.1 p; simpa [wx] using this⟩
  | k + 1, hk => by
    obtain ⟨a, b, c⟩ := wx_ok hN h1 h2 k (by omega)
    have e : i - k = (i - k - 1) + 1 := by omega
    rw [e] at a
    obtain ⟨t1, t2, -⟩ := tOf_spec hN a (b _ (by omega))
    simp only [ldB, Bool.and_eq_true] at t2
    refine ⟨?_, fun j hj => ?_, fun p => ?_⟩
    · rw [show i - (k + 1) = i - k - 1 by omega]
      exact t2.2
    · exact lead_not t1 t2.1 (b (j + 1) (by omega))
    · have := c p
      have := hN.2.2.2.2.2.1 (tOf N (i - k - 1) (wx N i k)) p
      show wx N i k p + ngv N _ p - ntk N _ p ≤ _
      omega
/-! arrays that hold a list of markings -/
def lsAt (a : Nat → Int32) (fr : Nat) (A : List Mk) : Prop := ∀ k m, A[k]? = some m → mkAt a (fr + 5 * k) m
theorem lsAt.get {a : Nat → Int32} {fr : Nat} {A : List Mk} (h : lsAt a fr A) {k : Nat} (hk : k < A.length) : mkAt a (fr + 5 * k) (A.getD k (fun _ => 0)) := by
  apply h k
  rw [List.getD_eq_getElem?_getD, List.getElem?_eq_getElem hk]
  rfl
theorem take_any {A : List Mk} {f : Mk → Bool} {k : Nat} (hk : k < A.length) : (A.take (k + 1)).any f = ((A.take k).any f || f (A.getD k (fun _ => 0))) := by
  rw [List.take_succ, List.any_append, List.getD_eq_getElem?_getD, List.getElem?_eq_getElem hk]
  simp
theorem take_all {A : List Mk} {f : Mk → Bool} {k : Nat} (hk : k < A.length) : (A.take (k + 1)).all f = ((A.take k).all f && f (A.getD k (fun _ => 0))) := by
  rw [List.take_succ, List.all_append, List.getD_eq_getElem?_getD, List.getElem?_eq_getElem hk]
  simp
theorem take_filter {A : List Mk} {f : Mk → Bool} {k : Nat} (hk : k < A.length) : (A.take (k + 1)).filter f = (A.take k).filter f ++ (if f (A.getD k (fun _ => 0)) then [A.getD k (fun _ => 0)] else []) := by
  rw [List.take_succ, List.filter_append, List.getD_eq_getElem?_getD, List.getElem?_eq_getElem hk]
  simp [List.filter_cons]
theorem take_len_any {A : List Mk} {f : Mk → Bool} : (A.take A.length).any f = A.any f := by rw [List.take_length]
end
section
/-! leaves of CoverRounds -/
theorem c_x_isPlace (l : Launch) {σ : XS} {P : Nat} (hP : σ 0 0 = nI P) (v : Int32) : XCi false l y_x_isPlace b_x_isPlace 2 .boolean 0 0 (fun q => [.ref (q 0), .int v]) σ (fun r σ' => r = bI (ltB v P) ∧ σ = σ') := by
  refine XCi.of (by decide) rfl (fun _ => rfl) (fun _ => rfl) (fun E q cA hEl C K R => ?_)
  refine x_iload_n C rfl d_x_isPlace_0 ?_
  refine x_if_lt C d_x_isPlace_1 (fun z => ?_) (fun z => ?_)
  · refine x_iconst C (nI 0) rfl d_x_isPlace_16 ?_
    exact R (bI_nar false) ⟨by simp [ltB, z, bI], rfl⟩ d_x_isPlace_17
  · refine x_iload_n C rfl d_x_isPlace_4 ?_
    refine x_aload_n C rfl d_x_isPlace_5 ?_
    refine x_getv C K 0 rfl rfl hP d_x_isPlace_6 ?_
    refine x_icmp_ge C d_x_isPlace_9 (fun z2 => ?_) (fun z2 => ?_)
    · refine x_iconst C (nI 0) rfl d_x_isPlace_16 ?_
      exact R (bI_nar false) ⟨by simp [ltB, Int32.not_lt.mpr z2, bI], rfl⟩ d_x_isPlace_17
    · refine x_iconst C (nI 1) rfl d_x_isPlace_12 ?_
      refine x_goto C d_x_isPlace_13 ?_
      exact R (bI_nar true) ⟨by simp [ltB, z, Int32.not_le.mp z2, bI], rfl⟩ d_x_isPlace_17
theorem c_x_isTransition (l : Launch) {σ : XS} {P : Nat} (hP : σ 1 0 = nI P) (v : Int32) : XCi false l y_x_isTransition b_x_isTransition 2 .boolean 0 0 (fun q => [.ref (q 0), .int v]) σ (fun r σ' => r = bI (ltB v P) ∧ σ = σ') := by
  refine XCi.of (by decide) rfl (fun _ => rfl) (fun _ => rfl) (fun E q cA hEl C K R => ?_)
  refine x_iload_n C rfl d_x_isTransition_0 ?_
  refine x_if_lt C d_x_isTransition_1 (fun z => ?_) (fun z => ?_)
  · refine x_iconst C (nI 0) rfl d_x_isTransition_16 ?_
    exact R (bI_nar false) ⟨by simp [ltB, z, bI], rfl⟩ d_x_isTransition_17
  · refine x_iload_n C rfl d_x_isTransition_4 ?_
    refine x_aload_n C rfl d_x_isTransition_5 ?_
    refine x_getv C K 1 rfl rfl hP d_x_isTransition_6 ?_
    refine x_icmp_ge C d_x_isTransition_9 (fun z2 => ?_) (fun z2 => ?_)
    · refine x_iconst C (nI 0) rfl d_x_isTransition_16 ?_
      exact R (bI_nar false) ⟨by simp [ltB, Int32.not_lt.mpr z2, bI], rfl⟩ d_x_isTransition_17
    · refine x_iconst C (nI 1) rfl d_x_isTransition_12 ?_
      refine x_goto C d_x_isTransition_13 ?_
      exact R (bI_nar true) ⟨by simp [ltB, z, Int32.not_le.mp z2, bI], rfl⟩ d_x_isTransition_17
theorem c_x_isIn2 (l : Launch) {σ : XS} (v : Int32) (h : Nat) : XCi false l y_x_isIn2 b_x_isIn2 2 .boolean 0 0 (fun q => [.int v, .int (nI h)]) σ (fun r σ' => r = bI (inB v h) ∧ σ = σ') := by
  refine XCi.of (by decide) rfl (fun _ => rfl) (fun _ => rfl) (fun E q cA hEl C K R => ?_)
  refine x_iload_n C rfl d_x_isIn2_0 ?_
  refine x_if_lt C d_x_isIn2_1 (fun z => ?_) (fun z => ?_)
  · refine x_iconst C (nI 0) rfl d_x_isIn2_13 ?_
    exact R (bI_nar false) ⟨by simp [inB, z, bI], rfl⟩ d_x_isIn2_14
  · refine x_iload_n C rfl d_x_isIn2_4 ?_
    refine x_iload_n C rfl d_x_isIn2_5 ?_
    refine x_icmp_gt C d_x_isIn2_6 (fun z2 => ?_) (fun z2 => ?_)
    · refine x_iconst C (nI 0) rfl d_x_isIn2_13 ?_
      exact R (bI_nar false) ⟨by simp [inB, Int32.not_le.mpr z2, bI], rfl⟩ d_x_isIn2_14
    · refine x_iconst C (nI 1) rfl d_x_isIn2_9 ?_
      refine x_goto C d_x_isIn2_10 ?_
      exact R (bI_nar true) ⟨by simp [inB, z, Int32.not_lt.mp z2, bI], rfl⟩ d_x_isIn2_14
theorem c_x_begin (l : Launch) {σ : XS} : XCv false l y_x_begin b_x_begin 1 1 26 (fun q => [.ref (q 0)]) σ (fun σ' => σ' = va_up σ 3 (va_cpy (σ 2) (σ 3) 0 0 5)) := by
  refine XCv.of (by decide) rfl (fun _ => rfl) (fun _ => rfl) (fun E q cA hEl C K R => ?_)
  refine x_aload_n C rfl d_x_begin_0 ?_
  refine x_geta C K 2 rfl (by decide) d_x_begin_1 ?_
  refine x_iconst C (nI 0) rfl d_x_begin_4 ?_
  refine x_aload_n C rfl d_x_begin_5 ?_
  refine x_geta C K 3 rfl (by decide) d_x_begin_6 ?_
  refine x_iconst C (nI 0) rfl d_x_begin_9 ?_
  refine x_iconst C (nI 5) rfl d_x_begin_10 ?_
  refine x_copy C K 1 (Or.inl rfl) rfl rfl (N0 := 5) (N1 := 5) rfl rfl (by omega) (by omega) (fun _ _ => rfl) (by omega) (by omega) (by decide) d_x_begin_11 ?_
  exact R rfl d_x_begin_14
theorem x_begin_now {σ : XS} {N : XNet} (h : RX N σ) : RX N (va_up σ 3 (va_cpy (σ 2) (σ 3) 0 0 5)) ∧ mk0 (va_up σ 3 (va_cpy (σ 2) (σ 3) 0 0 5) 3) (nfi N) ∧ ∀ k, 7 ≤ k → va_up σ 3 (va_cpy (σ 2) (σ 3) 0 0 5) k = σ k := by
  refine ⟨h, fun p hp => ?_, fun k hk => xun σ (by omega) _⟩
  rw [xus, pk_cpy_in (by omega) (by omega)]
  simpa using h.2.2.1 p hp
theorem c_x_place (l : Launch) {σ : XS} {N : XNet} {w : Nat → Nat} (hN : NOK N) (h : RX N σ) (hw : mk0 (σ 3) w) (v : Int32) : XCi false l y_x_place b_x_place 2 .int 2 60 (fun q => [.ref (q 0), .int v]) σ (fun r σ' => r = plR N v ∧ RX (plN N v) σ' ∧ mk0 (σ' 3) (if plO N v then nfi (plN N v) else w) ∧ ∀ k, 7 ≤ k → σ' k = σ k) := by
  refine XCi.of (by decide) rfl (fun _ => rfl) (fun _ => rfl) (fun E q cA hEl C K R => ?_)
  subst hEl
  have h5 := hN.1
  have fail : plO N v = false → Wx E 17 [.ref (q 0), .int v] [] σ := by
    intro ho
    refine x_iconst C (-1) rfl d_x_place_17 ?_
    refine R rfl ⟨by simp [plR, ho], ?_, ?_, fun _ _ => rfl⟩ d_x_place_18
    · simpa [plN, ho] using h
    · simpa [ho] using hw
  refine x_aload_n C rfl d_x_place_0 ?_
  refine x_getv C K 0 rfl rfl h.1 d_x_place_1 ?_
  refine x_iconst C (nI 5) rfl d_x_place_4 ?_
  refine x_icmpN_eq C (by omega) (by omega) d_x_place_5 (fun z => ?_) (fun z => ?_)
  · exact fail (by simp [plO, z])
  · refine x_iload_n C rfl d_x_place_8 ?_
    refine x_bipush C (nI 20) (by decide) d_x_place_9 ?_
    refine x_callSi C K s_x_77 (c_x_isIn2 (e_l E) v 20) rfl rfl rfl rfl rfl rfl d_x_place_11 (fun r σ' hr => ?_)
    obtain ⟨rfl, rfl⟩ := hr
    refine x_ifB_ne C d_x_place_14 (fun hi => ?_) (fun hi => ?_)
    · have ho : plO N v = true := by simp [plO, z, hi]
      obtain ⟨j, hj, rfl⟩ := (inB_iff (by omega)).mp hi
      refine x_aload_n C rfl d_x_place_19 ?_
      refine x_geta C K 2 rfl (by decide) d_x_place_20 ?_
      refine x_aload_n C rfl d_x_place_23 ?_
      refine x_dup C rfl d_x_place_24 ?_
      refine x_getv C K 0 rfl rfl h.1 d_x_place_25 ?_
      refine x_dup_x1 C rfl rfl d_x_place_28 ?_
      refine x_iconst C (nI 1) rfl d_x_place_29 ?_
      refine x_iaddN C d_x_place_30 ?_
      refine x_puti C K 0 rfl rfl rfl d_x_place_31 ?_
      refine x_iload_n C rfl d_x_place_34 ?_
      refine x_iast C K (k := 2) (N := 5) rfl rfl (by omega) d_x_place_35 ?_
      refine x_aload_n C rfl d_x_place_36 ?_
      refine x_callVv C K s_x_81 (c_x_begin (e_l E)) rfl rfl rfl rfl rfl rfl d_x_place_37 (fun σ' hs => ?_)
      have key : RX (plN N (nI j)) (va_up (va_up σ 0 (fun _ => nI (nP N + 1))) 2 (upd (σ 2) (nP N) (nI j))) := by
        obtain ⟨a0, a1, a2, a3, a4, a5⟩ := h
        simp only [plN, ho, if_true]
        refine ⟨rfl, a1, fun p hp => ?_, a3, a4, a5⟩
        show upd (σ 2) (nP N) (nI j) p = nI (if p = nP N then (nI j).toNatClampNeg else nfi N p)
        by_cases e : p = nP N
        · rw [if_pos e, e, upd_s, nI_clamp (by omega)]
        · rw [if_neg e, upd_n _ _ e]
          exact a2 p hp
      obtain ⟨k1, k2, k3⟩ := x_begin_now key
      subst hs
      refine x_aload_n C rfl d_x_place_40 ?_
      refine x_getv C K 0 rfl rfl (show _ = nI (nP N + 1) from rfl) d_x_place_41 ?_
      refine x_iconst C (nI 1) rfl d_x_place_44 ?_
      refine x_isubN C (by omega) d_x_place_45 ?_
      refine R rfl ⟨by simp [plR, ho], k1, ?_, fun k hk => ?_⟩ d_x_place_46
      · rw [if_pos ho]; exact k2
      · exact (k3 k hk).trans ((xun _ (by omega) _).trans (xun _ (by omega) _))
    · exact fail (by simp [plO, hi])
theorem c_x_transition (l : Launch) {σ : XS} {N : XNet} {w : Nat → Nat} (hN : NOK N) (h : RX N σ) (hw : mk0 (σ 3) w) : XCi false l y_x_transition b_x_transition 1 .int 2 60 (fun q => [.ref (q 0)]) σ (fun r σ' => r = trR N ∧ RX (trN N) σ' ∧ mk0 (σ' 3) (if trO N then nfi N else w) ∧ ∀ k, 7 ≤ k → σ' k = σ k) := by
  refine XCi.of (by decide) rfl (fun _ => rfl) (fun _ => rfl) (fun E q cA hEl C K R => ?_)
  subst hEl
  have h6 := hN.2.1
  refine x_aload_n C rfl d_x_transition_0 ?_
  refine x_getv C K 1 rfl rfl h.2.1 d_x_transition_1 ?_
  refine x_bipush C (nI 6) (by decide) d_x_transition_4 ?_
  refine x_icmpN_ne C (by omega) (by omega) d_x_transition_6 (fun z => ?_) (fun z => ?_)
  · have ho : trO N = true := by simp [trO, z]
    refine x_aload_n C rfl d_x_transition_11 ?_
    refine x_callVv C K s_x_81 (c_x_begin (e_l E)) rfl rfl rfl rfl rfl rfl d_x_transition_12 (fun σ' hs => ?_)
    obtain ⟨k1, k2, k3⟩ := x_begin_now h
    subst hs
    refine x_aload_n C rfl d_x_transition_15 ?_
    refine x_dup C rfl d_x_transition_16 ?_
    refine x_getv C K 1 rfl rfl h.2.1 d_x_transition_17 ?_
    refine x_dup_x1 C rfl rfl d_x_transition_20 ?_
    refine x_iconst C (nI 1) rfl d_x_transition_21 ?_
    refine x_iaddN C d_x_transition_22 ?_
    refine x_puti C K 1 rfl rfl rfl d_x_transition_23 ?_
    refine R rfl ⟨by simp [trR, ho], ?_, ?_, fun k hk => ?_⟩ d_x_transition_26
    · obtain ⟨a0, a1, a2, a3, a4, a5⟩ := k1
      simp only [trN, ho, if_true]
      exact ⟨a0, rfl, a2, a3, a4, a5⟩
    · simp only [ho, if_true]
      exact k2
    · exact (xun _ (by omega) _).trans (k3 k hk)
  · have ho : trO N = false := by simp [trO, z]
    refine x_iconst C (-1) rfl d_x_transition_9 ?_
    refine R rfl ⟨by simp [trR, ho], ?_, ?_, fun _ _ => rfl⟩ d_x_transition_10
    · simpa [trN, ho] using h
    · simpa [ho] using hw
theorem c_x_target (l : Launch) {σ : XS} {N : XNet} (hN : NOK N) (h : RX N σ) (a b : Int32) : XCi false l y_x_target b_x_target 3 .boolean 1 21 (fun q => [.ref (q 0), .int a, .int b]) σ (fun r σ' => r = bI (tgO N a b) ∧ RX (tgN N a b) σ' ∧ σ' 3 = σ 3 ∧ ∀ k, 7 ≤ k → σ' k = σ k) := by
  refine XCi.of (by decide) rfl (fun _ => rfl) (fun _ => rfl) (fun E q cA hEl C K R => ?_)
  subst hEl
  have h5 := hN.1
  have fail : tgO N a b = false → Wx E 17 [.ref (q 0), .int a, .int b] [] σ := by
    intro ho
    refine x_iconst C (nI 0) rfl d_x_target_17 ?_
    refine R (bI_nar false) ⟨by rw [ho]; rfl, ?_, rfl, fun _ _ => rfl⟩ d_x_target_18
    simpa [tgN, ho] using h
  refine x_aload_n C rfl d_x_target_0 ?_
  refine x_iload_n C rfl d_x_target_1 ?_
  refine x_callVi C K s_x_88 (c_x_isPlace (e_l E) h.1 a) rfl rfl rfl rfl rfl rfl d_x_target_2 (fun r σ' hr => ?_)
  obtain ⟨rfl, rfl⟩ := hr
  refine x_ifB_eq C d_x_target_5 (fun h1 => ?_) (fun h1 => ?_)
  · exact fail (by simp [tgO, h1])
  · refine x_iload_n C rfl d_x_target_8 ?_
    refine x_bipush C (nI 20) (by decide) d_x_target_9 ?_
    refine x_callSi C K s_x_77 (c_x_isIn2 (e_l E) b 20) rfl rfl rfl rfl rfl rfl d_x_target_11 (fun r σ' hr => ?_)
    obtain ⟨rfl, rfl⟩ := hr
    refine x_ifB_ne C d_x_target_14 (fun h2 => ?_) (fun h2 => ?_)
    · have ho : tgO N a b = true := by simp [tgO, h1, h2]
      obtain ⟨p, hp, rfl⟩ := (ltB_iff (by omega)).mp h1
      obtain ⟨x, hx, rfl⟩ := (inB_iff (by omega)).mp h2
      refine x_aload_n C rfl d_x_target_19 ?_
      refine x_geta C K 4 rfl (by decide) d_x_target_20 ?_
      refine x_iload_n C rfl d_x_target_23 ?_
      refine x_iload_n C rfl d_x_target_24 ?_
      refine x_iast C K (k := 4) (N := 5) rfl rfl (by omega) d_x_target_25 ?_
      refine x_iconst C (nI 1) rfl d_x_target_26 ?_
      refine R (bI_nar true) ⟨by rw [ho]; rfl, ?_, rfl, fun k hk => xun σ (by omega) _⟩ d_x_target_27
      obtain ⟨a0, a1, a2, a3, a4, a5⟩ := h
      simp only [tgN, ho, if_true]
      refine ⟨a0, a1, a2, fun j hj => ?_, a4, a5⟩
      show upd (σ 4) p (nI x) j = nI (if j = (nI p).toNatClampNeg then (nI x).toNatClampNeg else ngo N j)
      rw [nI_clamp (n := p) (by omega), nI_clamp (n := x) (by omega)]
      by_cases e : j = p
      · rw [if_pos e, e, upd_s]
      · rw [if_neg e, upd_n _ _ e]
        exact a3 j hj
    · exact fail (by simp [tgO, h2])
theorem up2_at {f : Nat → Nat → Nat} {a : Nat → Int32} {t p v : Nat} (hf : ∀ t p, t < 6 → p < 5 → a (5 * t + p) = nI (f t p)) (hp : p < 5) : ∀ i j, i < 6 → j < 5 → upd a (5 * t + p) (nI v) (5 * i + j) = nI (up2 f t p v i j) := by
  intro i j hi hj
  unfold up2
  by_cases e : i = t ∧ j = p
  · rw [if_pos e, e.1, e.2, upd_s]
  · rw [if_neg e, upd_n _ _ (by omega)]
    exact hf i j hi hj
theorem c_x_arc (l : Launch) {σ : XS} {N : XNet} {w : Nat → Nat} (hN : NOK N) (h : RX N σ) (hw : mk0 (σ 3) w) (a b c d : Int32) : XCi false l y_x_arc b_x_arc 5 .boolean 2 60 (fun q => [.ref (q 0), .int a, .int b, .int c, .int d]) σ (fun r σ' => r = bI (arO N a b c d) ∧ RX (arN N a b c d) σ' ∧ mk0 (σ' 3) (if arO N a b c d then nfi N else w) ∧ ∀ k, 7 ≤ k → σ' k = σ k) := by
  refine XCi.of (by decide) rfl (fun _ => rfl) (fun _ => rfl) (fun E q cA hEl C K R => ?_)
  subst hEl
  have h5 := hN.1
  have h6 := hN.2.1
  have fail : arO N a b c d = false → Wx E 33 [.ref (q 0), .int a, .int b, .int c, .int d] [] σ := by
    intro ho
    refine x_iconst C (nI 0) rfl d_x_arc_33 ?_
    refine R (bI_nar false) ⟨by rw [ho]; rfl, ?_, ?_, fun _ _ => rfl⟩ d_x_arc_34
    · simpa [arN, ho] using h
    · simpa [ho] using hw
  refine x_aload_n C rfl d_x_arc_0 ?_
  refine x_iload_n C rfl d_x_arc_1 ?_
  refine x_callVi C K s_x_84 (c_x_isTransition (e_l E) h.2.1 a) rfl rfl rfl rfl rfl rfl d_x_arc_2 (fun r σ' hr => ?_)
  obtain ⟨rfl, rfl⟩ := hr
  refine x_ifB_eq C d_x_arc_5 (fun h1 => fail (by simp [arO, h1])) (fun h1 => ?_)
  refine x_aload_n C rfl d_x_arc_8 ?_
  refine x_iload_n C rfl d_x_arc_9 ?_
  refine x_callVi C K s_x_88 (c_x_isPlace (e_l E) h.1 b) rfl rfl rfl rfl rfl rfl d_x_arc_10 (fun r σ' hr => ?_)
  obtain ⟨rfl, rfl⟩ := hr
  refine x_ifB_eq C d_x_arc_13 (fun h2 => fail (by simp [arO, h2])) (fun h2 => ?_)
  refine x_iload_n C rfl d_x_arc_16 ?_
  refine x_iconst C (nI 5) rfl d_x_arc_17 ?_
  refine x_callSi C K s_x_77 (c_x_isIn2 (e_l E) c 5) rfl rfl rfl rfl rfl rfl d_x_arc_18 (fun r σ' hr => ?_)
  obtain ⟨rfl, rfl⟩ := hr
  refine x_ifB_eq C d_x_arc_21 (fun h3 => fail (by simp [arO, h3])) (fun h3 => ?_)
  refine x_iload C rfl d_x_arc_24 ?_
  refine x_iconst C (nI 5) rfl d_x_arc_26 ?_
  refine x_callSi C K s_x_77 (c_x_isIn2 (e_l E) d 5) rfl rfl rfl rfl rfl rfl d_x_arc_27 (fun r σ' hr => ?_)
  obtain ⟨rfl, rfl⟩ := hr
  refine x_ifB_ne C d_x_arc_30 (fun h4 => ?_) (fun h4 => fail (by simp [arO, h4]))
  have ho : arO N a b c d = true := by simp [arO, h1, h2, h3, h4]
  obtain ⟨t, ht, rfl⟩ := (ltB_iff (by omega)).mp h1
  obtain ⟨p, hp, rfl⟩ := (ltB_iff (by omega)).mp h2
  obtain ⟨x, hx, rfl⟩ := (inB_iff (by omega)).mp h3
  obtain ⟨y, hy, rfl⟩ := (inB_iff (by omega)).mp h4
  refine x_aload_n C rfl d_x_arc_35 ?_
  refine x_geta C K 5 rfl (by decide) d_x_arc_36 ?_
  refine x_iconst C (nI 5) rfl d_x_arc_39 ?_
  refine x_iload_n C rfl d_x_arc_40 ?_
  refine x_imulN C d_x_arc_41 ?_
  refine x_iload_n C rfl d_x_arc_42 ?_
  refine x_iaddN C d_x_arc_43 ?_
  refine x_iload_n C rfl d_x_arc_44 ?_
  refine x_i2b C _ (nI_i8 (by omega)) d_x_arc_45 ?_
  refine x_bast C K (k := 5) (N := 30) rfl rfl (by omega) (nI_i8 (by omega)) d_x_arc_46 ?_
  refine x_aload_n C rfl d_x_arc_47 ?_
  refine x_geta C K 6 rfl (by decide) d_x_arc_48 ?_
  refine x_iconst C (nI 5) rfl d_x_arc_51 ?_
  refine x_iload_n C rfl d_x_arc_52 ?_
  refine x_imulN C d_x_arc_53 ?_
  refine x_iload_n C rfl d_x_arc_54 ?_
  refine x_iaddN C d_x_arc_55 ?_
  refine x_iload C rfl d_x_arc_56 ?_
  refine x_i2b C _ (nI_i8 (by omega)) d_x_arc_58 ?_
  refine x_bast C K (k := 6) (N := 30) rfl rfl (by omega) (nI_i8 (by omega)) d_x_arc_59 ?_
  refine x_aload_n C rfl d_x_arc_60 ?_
  refine x_callVv C K s_x_81 (c_x_begin (e_l E)) rfl rfl rfl rfl rfl rfl d_x_arc_61 (fun σ' hs => ?_)
  have key : RX (arN N (nI t) (nI p) (nI x) (nI y)) (va_up (va_up σ 5 (upd (σ 5) (5 * t + p) (nI x))) 6 (upd (σ 6) (5 * t + p) (nI y))) := by
    obtain ⟨a0, a1, a2, a3, a4, a5⟩ := h
    simp only [arN, ho, if_true, nI_clamp (n := t) (by omega), nI_clamp (n := p) (by omega), nI_clamp (n := x) (by omega), nI_clamp (n := y) (by omega)]
    exact ⟨a0, a1, a2, a3, up2_at a4 (by omega), up2_at a5 (by omega)⟩
  obtain ⟨k1, k2, k3⟩ := x_begin_now key
  subst hs
  refine x_iconst C (nI 1) rfl d_x_arc_64 ?_
  refine R (bI_nar true) ⟨by rw [ho]; rfl, k1, ?_, fun k hk => ?_⟩ d_x_arc_65
  · simp only [ho, if_true]
    have e : nfi (arN N (nI t) (nI p) (nI x) (nI y)) = nfi N := by simp [arN, ho]
    rw [e] at k2
    exact k2
  · exact (k3 k hk).trans ((xun _ (by omega) _).trans (xun _ (by omega) _))
theorem c_x_tokens (l : Launch) {σ : XS} {N : XNet} {w : Nat → Nat} (hN : NOK N) (h : RX N σ) (hw : mk0 (σ 3) w) (v : Int32) : XCi false l y_x_tokens b_x_tokens 2 .int 1 21 (fun q => [.ref (q 0), .int v]) σ (fun r σ' => r = tkR N w v ∧ σ = σ') := by
  refine XCi.of (by decide) rfl (fun _ => rfl) (fun _ => rfl) (fun E q cA hEl C K R => ?_)
  subst hEl
  have h5 := hN.1
  refine x_aload_n C rfl d_x_tokens_0 ?_
  refine x_iload_n C rfl d_x_tokens_1 ?_
  refine x_callVi C K s_x_88 (c_x_isPlace (e_l E) h.1 v) rfl rfl rfl rfl rfl rfl d_x_tokens_2 (fun r σ' hr => ?_)
  obtain ⟨rfl, rfl⟩ := hr
  refine x_ifB_eq C d_x_tokens_5 (fun h1 => ?_) (fun h1 => ?_)
  · refine x_iconst C (-1) rfl d_x_tokens_17 ?_
    exact R rfl ⟨by simp [tkR, h1], rfl⟩ d_x_tokens_18
  · obtain ⟨p, hp, rfl⟩ := (ltB_iff (by omega)).mp h1
    refine x_aload_n C rfl d_x_tokens_8 ?_
    refine x_geta C K 3 rfl (by decide) d_x_tokens_9 ?_
    refine x_iload_n C rfl d_x_tokens_12 ?_
    refine x_iald C K (k := 3) (N := 5) rfl rfl (by omega) (hw p (by omega)) d_x_tokens_13 ?_
    refine x_goto C d_x_tokens_14 ?_
    exact R rfl ⟨by rw [tkR, h1, nI_clamp (by omega)]; rfl, rfl⟩ d_x_tokens_18
end
section
theorem c_x_canFire (l : Launch) {σ : XS} {k2 n2 t fr P : Nat} {mk : Nat → Nat} {tk : Nat → Nat → Nat} (hk2 : xk false k2 = 1) (hn2 : xlen false k2 = n2) (hfr : fr + 5 ≤ n2) (hP : σ 0 0 = nI P) (hP5 : P ≤ 5) (ht : t < 6) (hmk : ∀ p, p < P → σ k2 (fr + p) = nI (mk p)) (hmb : ∀ p, p < P → mk p < 2 ^ 31) (htk : ∀ t p, t < 6 → p < 5 → σ 5 (5 * t + p) = nI (tk t p)) (htb : ∀ t p, tk t p ≤ 5) : XCi false l y_x_canFire b_x_canFire 6 .boolean 0 0 (fun q => [.ref (q 0), .int (nI t), .ref (q k2), .int (nI fr)]) σ (fun r σ' => r = bI (xall P (fun p => decide (tk t p ≤ mk p))) ∧ σ = σ') := by
  refine XCi.of (by decide) rfl (fun _ => rfl) (fun _ => rfl) (fun E q cA hEl C K R => ?_)
  refine x_iconst C (nI 1) rfl d_x_canFire_0 ?_
  refine x_istore C rfl rfl d_x_canFire_1 ?_
  dsimp only [xst]
  refine x_iconst C (nI 0) rfl d_x_canFire_3 ?_
  refine x_istore C rfl rfl d_x_canFire_4 ?_
  dsimp only [xst]
  refine x_for (fun i => Wx E 6 [.ref (q 0), .int (nI t), .ref (q k2), .int (nI fr), .int (bI (xall i (fun p => decide (tk t p ≤ mk p)))), .int (nI i)] [] σ) P (fun i hi ih => ?_) 0 (Nat.zero_le _)
  refine x_iload C rfl d_x_canFire_6 ?_
  refine x_aload_n C rfl d_x_canFire_8 ?_
  refine x_getv C K 0 rfl rfl hP d_x_canFire_9 ?_
  refine x_icmpN_ge C (by omega) (by omega) d_x_canFire_12 (fun z => ?_) (fun z => ?_)
  · refine x_iload C rfl d_x_canFire_51 ?_
    have e : i = P := by omega
    subst e
    exact R (bI_nar _) ⟨rfl, rfl⟩ d_x_canFire_53
  · have hb := hmb i z
    have hb2 := htb t i
    refine x_iload C rfl d_x_canFire_15 ?_
    refine x_aload_n C rfl d_x_canFire_17 ?_
    refine x_iload_n C rfl d_x_canFire_18 ?_
    refine x_iload C rfl d_x_canFire_19 ?_
    refine x_iaddN C d_x_canFire_21 ?_
    refine x_iald C K hk2 hn2 (by omega) (hmk i z) d_x_canFire_22 ?_
    refine x_aload_n C rfl d_x_canFire_23 ?_
    refine x_geta C K 5 rfl (by decide) d_x_canFire_24 ?_
    refine x_iconst C (nI 5) rfl d_x_canFire_27 ?_
    refine x_iload_n C rfl d_x_canFire_28 ?_
    refine x_imulN C d_x_canFire_29 ?_
    refine x_iload C rfl d_x_canFire_30 ?_
    refine x_iaddN C d_x_canFire_32 ?_
    refine x_bald C K (k := 5) (N := 30) rfl rfl (by omega) (htk t i ht (by omega)) d_x_canFire_33 ?_
    refine x_cmpB_lt C (by omega) (by omega) d_x_canFire_34 d_x_canFire_37 d_x_canFire_38 d_x_canFire_41 ?_
    refine x_iandB C d_x_canFire_42 ?_
    refine x_istore C rfl rfl d_x_canFire_43 ?_
    dsimp only [xst]
    refine x_iincN (b := 1) C rfl rfl d_x_canFire_45 ?_
    dsimp only [xst]
    refine x_goto C d_x_canFire_48 ?_
    exact ih z
/-- canFire over a net: the transition takes no more than is there -/
theorem c_x_canFireN (l : Launch) {σ : XS} {N : XNet} {k2 n2 t fr : Nat} {mk : Nat → Nat} (hN : NOK N) (h : RX N σ) (hk2 : xk false k2 = 1) (hn2 : xlen false k2 = n2) (hfr : fr + 5 ≤ n2) (ht : t < 6) (hmk : mkAt (σ k2) fr mk) (hmb : ∀ p, p < 5 → mk p < 2 ^ 31) : XCi false l y_x_canFire b_x_canFire 6 .boolean 0 0 (fun q => [.ref (q 0), .int (nI t), .ref (q k2), .int (nI fr)]) σ (fun r σ' => r = bI (leM (ntk N t) mk) ∧ σ = σ') := by
  have e := leM_P (P := nP N) hN.1 (a := ntk N t) (b := mk) (fun p h1 h2 => by rw [hN.2.2.2.2.2.2.2.2.1 t p h1]; exact Nat.zero_le _)
  rw [← e]
  have h5 := hN.1
  exact c_x_canFire l hk2 hn2 hfr h.1 hN.1 ht (fun p hp => hmk p (by omega)) (fun p hp => hmb p (by omega)) h.2.2.2.2.1 hN.2.2.2.2.1
theorem c_x_step (l : Launch) {σ : XS} {N : XNet} {k2 n2 t : Nat} {mk : Nat → Nat} (hN : NOK N) (h : RX N σ) (hk2 : xk false k2 = 1) (hn2 : xlen false k2 = n2) (hfr : 5 ≤ n2) (ht : t < 6) (hmk : mk0 (σ k2) mk) (hle : ∀ p, p < 5 → ntk N t p ≤ mk p) : XCv false l y_x_step b_x_step 4 0 0 (fun q => [.ref (q 0), .int (nI t), .ref (q k2)]) σ (fun σ' => ∃ f, σ' = va_up σ k2 f ∧ mk0 f (stM N t mk)) := by
  refine XCv.of (by decide) rfl (fun _ => rfl) (fun _ => rfl) (fun E q cA hEl C K R => ?_)
  have h5 := hN.1
  have n0 : 0 ≠ k2 := fun e => by subst e; exact absurd hk2 (by decide)
  have n5 : 5 ≠ k2 := fun e => by subst e; exact absurd hk2 (by decide)
  have n6 : 6 ≠ k2 := fun e => by subst e; exact absurd hk2 (by decide)
  refine x_iconst C (nI 0) rfl d_x_step_0 ?_
  refine x_istore_n C 3 rfl rfl rfl d_x_step_1 ?_
  dsimp only [xst]
  have key := x_forS (fun i f => Wx E 2 [.ref (q 0), .int (nI t), .ref (q k2), .int (nI i)] [] (va_up σ k2 f)) (fun i f => (∀ p, p < i → f p = nI (stM N t mk p)) ∧ ∀ p, i ≤ p → p < 5 → f p = nI (mk p)) (nP N) (fun i f hi hI ih => ?_) 0 (σ k2) (Nat.zero_le _) ⟨fun p hp => absurd hp (by omega), fun p _ hp => hmk p hp⟩
  · rw [xueq] at key
    exact key
  · have hP : va_up σ k2 f 0 0 = nI (nP N) := by rw [xun σ n0]; exact h.1
    have hT : ∀ p, p < 5 → va_up σ k2 f 5 (5 * t + p) = nI (ntk N t p) := fun p hp => by rw [xun σ n5]; exact h.2.2.2.2.1 t p ht hp
    have hG : ∀ p, p < 5 → va_up σ k2 f 6 (5 * t + p) = nI (ngv N t p) := fun p hp => by rw [xun σ n6]; exact h.2.2.2.2.2 t p ht hp
    refine x_iload_n C rfl d_x_step_2 ?_
    refine x_aload_n C rfl d_x_step_3 ?_
    refine x_getv C K 0 rfl rfl hP d_x_step_4 ?_
    refine x_icmpN_ge C (by omega) (by omega) d_x_step_7 (fun z => ?_) (fun z => ?_)
    · refine R ⟨f, rfl, fun p hp => ?_⟩ d_x_step_43
      by_cases e : p < i
      · exact hI.1 p e
      · rw [hI.2 p (by omega) hp]
        have e1 := hN.2.2.2.2.2.2.2.2.1 t p (by omega)
        have e2 := hN.2.2.2.2.2.2.2.2.2 t p (by omega)
        simp [stM, e1, e2]
    · have hv : va_up σ k2 f k2 i = nI (mk i) := by rw [xus]; exact hI.2 i (by omega) (by omega)
      refine x_aload_n C rfl d_x_step_10 ?_
      refine x_iload_n C rfl d_x_step_11 ?_
      refine x_dup2 C rfl rfl d_x_step_12 ?_
      refine x_iald C K hk2 hn2 (by omega) hv d_x_step_13 ?_
      refine x_aload_n C rfl d_x_step_14 ?_
      refine x_geta C K 6 rfl (by decide) d_x_step_15 ?_
      refine x_iconst C (nI 5) rfl d_x_step_18 ?_
      refine x_iload_n C rfl d_x_step_19 ?_
      refine x_imulN C d_x_step_20 ?_
      refine x_iload_n C rfl d_x_step_21 ?_
      refine x_iaddN C d_x_step_22 ?_
      refine x_bald C K (k := 6) (N := 30) rfl rfl (by omega) (hG i (by omega)) d_x_step_23 ?_
      refine x_aload_n C rfl d_x_step_24 ?_
      refine x_geta C K 5 rfl (by decide) d_x_step_25 ?_
      refine x_iconst C (nI 5) rfl d_x_step_28 ?_
      refine x_iload_n C rfl d_x_step_29 ?_
      refine x_imulN C d_x_step_30 ?_
      refine x_iload_n C rfl d_x_step_31 ?_
      refine x_iaddN C d_x_step_32 ?_
      refine x_bald C K (k := 5) (N := 30) rfl rfl (by omega) (hT i (by omega)) d_x_step_33 ?_
      refine x_isub C d_x_step_34 ?_
      refine x_iadd C d_x_step_35 ?_
      refine x_iast C K hk2 hn2 (by omega) d_x_step_36 ?_
      refine x_iincN (b := 1) C rfl rfl d_x_step_37 ?_
      dsimp only [xst]
      refine x_goto C d_x_step_40 ?_
      rw [nI_fire (hle i (by omega)), xuu, xus]
      refine ih _ z ⟨fun p hp => ?_, fun p h1 h2 => ?_⟩
      · by_cases e : p = i
        · rw [e, upd_s]; rfl
        · rw [upd_n _ _ e]; exact hI.1 p (by omega)
      · rw [upd_n _ _ (by omega)]; exact hI.2 p (by omega) h2
theorem c_x_fire (l : Launch) {σ : XS} {N : XNet} {w : Nat → Nat} (hN : NOK N) (h : RX N σ) (hw : mk0 (σ 3) w) (hb : ∀ p, p < 5 → w p < 2 ^ 31) (v : Int32) : XCi false l y_x_fire b_x_fire 2 .boolean 1 40 (fun q => [.ref (q 0), .int v]) σ (fun r σ' => r = bI (fiO N w v) ∧ RX N σ' ∧ mk0 (σ' 3) (fiW N w v) ∧ ∀ k, 7 ≤ k → σ' k = σ k) := by
  refine XCi.of (by decide) rfl (fun _ => rfl) (fun _ => rfl) (fun E q cA hEl C K R => ?_)
  subst hEl
  have h6 := hN.2.1
  have fail : fiO N w v = false → Wx E 21 [.ref (q 0), .int v] [] σ := by
    intro ho
    refine x_iconst C (nI 0) rfl d_x_fire_21 ?_
    exact R (bI_nar false) ⟨by rw [ho]; rfl, h, by simpa [fiW, ho] using hw, fun _ _ => rfl⟩ d_x_fire_22
  refine x_aload_n C rfl d_x_fire_0 ?_
  refine x_iload_n C rfl d_x_fire_1 ?_
  refine x_callVi C K s_x_84 (c_x_isTransition (e_l E) h.2.1 v) rfl rfl rfl rfl rfl rfl d_x_fire_2 (fun r σ' hr => ?_)
  obtain ⟨rfl, rfl⟩ := hr
  refine x_ifB_eq C d_x_fire_5 (fun h1 => fail (by simp [fiO, h1])) (fun h1 => ?_)
  obtain ⟨t, ht, rfl⟩ := (ltB_iff (by omega)).mp h1
  have et : (nI t).toNatClampNeg = t := nI_clamp (by omega)
  refine x_aload_n C rfl d_x_fire_8 ?_
  refine x_iload_n C rfl d_x_fire_9 ?_
  refine x_aload_n C rfl d_x_fire_10 ?_
  refine x_geta C K 3 rfl (by decide) d_x_fire_11 ?_
  refine x_iconst C (nI 0) rfl d_x_fire_14 ?_
  refine x_callVi C K s_x_91 (c_x_canFireN (e_l E) (k2 := 3) (n2 := 5) (fr := 0) hN h rfl rfl (by omega) (by omega) (fun p hp => by rw [Nat.zero_add]; exact hw p hp) hb) rfl rfl rfl rfl rfl rfl d_x_fire_15 (fun r σ' hr => ?_)
  obtain ⟨rfl, rfl⟩ := hr
  refine x_ifB_ne C d_x_fire_18 (fun h2 => ?_) (fun h2 => fail (by simp [fiO, et, h2]))
  have ho : fiO N w (nI t) = true := by simp [fiO, et, h1, h2]
  refine x_aload_n C rfl d_x_fire_23 ?_
  refine x_iload_n C rfl d_x_fire_24 ?_
  refine x_aload_n C rfl d_x_fire_25 ?_
  refine x_geta C K 3 rfl (by decide) d_x_fire_26 ?_
  refine x_callVv C K s_x_95 (c_x_step (e_l E) (k2 := 3) (n2 := 5) hN h rfl rfl (by omega) (by omega) hw (leM_iff.mp h2)) rfl rfl rfl rfl rfl rfl d_x_fire_29 (fun σ' hs => ?_)
  obtain ⟨f, rfl, hf⟩ := hs
  refine x_iconst C (nI 1) rfl d_x_fire_32 ?_
  refine R (bI_nar true) ⟨by rw [ho]; rfl, h, ?_, fun k hk => xun σ (by omega) _⟩ d_x_fire_33
  rw [xus]
  simpa [fiW, ho, et] using hf
end
section
/-! CoverRounds: rounds -/
/-- what isn't in S is as it was -/
def frm (S : List Nat) (σ σ' : XS) : Prop := ∀ k, k ∉ S → σ' k = σ k
theorem frm.rf (S : List Nat) (σ : XS) : frm S σ σ := fun _ _ => rfl
theorem frm.up {S : List Nat} {σ τ : XS} (h : frm S σ τ) {k : Nat} (hk : k ∈ S) (f : Nat → Int32) : frm S σ (va_up τ k f) := fun j hj => by
  rw [xun τ (fun e => hj (by rw [e]; exact hk))]
  exact h j hj
theorem frm.tr {S S' : List Nat} {σ τ υ : XS} (h1 : frm S σ τ) (h2 : frm S' τ υ) (hs : ∀ k ∈ S', k ∈ S) : frm S σ υ := fun k hk => (h2 k (fun e => hk (hs k e))).trans (h1 k hk)
theorem frm.mo {S S' : List Nat} {σ τ : XS} (h1 : frm S' σ τ) (hs : ∀ k ∈ S', k ∈ S) : frm S σ τ := fun k hk => h1 k (fun e => hk (hs k e))
theorem RX.fr {N : XNet} {S : List Nat} {σ τ : XS} (h : RX N σ) (hf : frm S σ τ) (hs : (S.all (fun k => decide (7 ≤ k) || decide (k = 3))) = true) : RX N τ := by
  refine h.keep (fun k h1 h2 => hf k (fun e => ?_))
  have := List.all_eq_true.mp hs k e
  simp only [Bool.or_eq_true, decide_eq_true_eq] at this
  omega
theorem lsAt_app {a : Nat → Int32} {fr : Nat} {A : List Mk} {w : Mk} (h : lsAt a fr A) (hw : mkAt a (fr + 5 * A.length) w) : lsAt a fr (A ++ [w]) := by
  intro k m hm
  by_cases hk : k < A.length
  · rw [List.getElem?_append_left hk] at hm
    exact h k m hm
  · rw [List.getElem?_append_right (by omega)] at hm
    have hz : k - A.length < 1 := (List.getElem?_eq_some_iff.mp hm).1
    have e : k = A.length := by omega
    subst e
    rw [Nat.sub_self] at hm
    cases hm
    exact hw
theorem lsAt_congr {a b : Nat → Int32} {fr : Nat} {A : List Mk} (h : lsAt a fr A) (hb : ∀ j, fr ≤ j → j < fr + 5 * A.length → b j = a j) : lsAt b fr A := by
  intro k m hm p hp
  have hk : k < A.length := (List.getElem?_eq_some_iff.mp hm).1
  rw [hb _ (by omega) (by omega)]
  exact h k m hm p hp
theorem c_x_at (l : Launch) {σ : XS} (r k : Nat) : XCi false l y_x_at b_x_at 2 .int 0 0 (fun q => [.int (nI r), .int (nI k)]) σ (fun v σ' => v = nI (5 * (200 * r + k)) ∧ σ = σ') := by
  refine XCi.of (by decide) rfl (fun _ => rfl) (fun _ => rfl) (fun E q cA hEl C K R => ?_)
  refine x_iconst C (nI 5) rfl d_x_at_0 ?_
  refine x_sipush C (nI 200) (by decide) d_x_at_1 ?_
  refine x_iload_n C rfl d_x_at_4 ?_
  refine x_imulN C d_x_at_5 ?_
  refine x_iload_n C rfl d_x_at_6 ?_
  refine x_iaddN C d_x_at_7 ?_
  refine x_imulN C d_x_at_8 ?_
  exact R rfl ⟨rfl, rfl⟩ d_x_at_9
theorem c_x_isIn4 (l : Launch) {σ : XS} {N : XNet} {k1 n1 k2 n2 fr B : Nat} {w : Mk} {A : List Mk} (hN : NOK N) (h : RX N σ) (hk1 : xk false k1 = 1) (hn1 : xlen false k1 = n1) (h5 : 5 ≤ n1) (hk2 : xk false k2 = 3) (hn2 : xlen false k2 = n2) (hfr : fr + 5 * A.length ≤ n2) (hw : mk0 (σ k1) w) (bw : ∀ p, p < 5 → w p < 2 ^ 31) (hA : lsAt (σ k2) fr A) (oA : okL (nP N) B A) (hB : B < 2 ^ 31) : XCi false l y_x_isIn4 b_x_isIn4 8 .boolean 0 0 (fun q => [.ref (q 0), .ref (q k1), .ref (q k2), .int (nI fr), .int (nI A.length)]) σ (fun r σ' => r = bI (anyLe A w) ∧ σ = σ') := by
  refine XCi.of (by decide) rfl (fun _ => rfl) (fun _ => rfl) (fun E q cA hEl C K R => ?_)
  have lt2 := xlen_lt false k2
  have hP5 := hN.1
  refine x_iconst C (nI 0) rfl d_x_isIn4_0 ?_
  refine x_istore C rfl rfl d_x_isIn4_1 ?_
  dsimp only [xst]
  refine x_iconst C (nI 0) rfl d_x_isIn4_3 ?_
  refine x_istore C rfl rfl d_x_isIn4_4 ?_
  dsimp only [xst]
  refine x_for (fun k => Wx E 6 [.ref (q 0), .ref (q k1), .ref (q k2), .int (nI fr), .int (nI A.length), .int (bI ((A.take k).any (fun m => leM m w))), .int (nI k)] [] σ) A.length (fun k hk ih => ?_) 0 (Nat.zero_le _)
  refine x_iload C rfl d_x_isIn4_6 ?_
  refine x_iload C rfl d_x_isIn4_8 ?_
  refine x_icmpN_ge C (by omega) (by omega) d_x_isIn4_10 (fun z => ?_) (fun z => ?_)
  · refine x_iload C rfl d_x_isIn4_73 ?_
    refine R (bI_nar _) ⟨?_, rfl⟩ d_x_isIn4_75
    rw [List.take_of_length_le z]; rfl
  · refine x_iload C rfl d_x_isIn4_13 ?_
    refine x_ifB_ne C d_x_isIn4_15 (fun z2 => ?_) (fun z2 => ?_)
    · refine x_iload C rfl d_x_isIn4_73 ?_
      refine R (bI_nar _) ⟨?_, rfl⟩ d_x_isIn4_75
      rw [z2]
      obtain ⟨m, m1, m2⟩ := List.any_eq_true.mp z2
      rw [show anyLe A w = true from anyLe_iff.mpr ⟨m, List.mem_of_mem_take m1, m2⟩]
    · have hm := hA.get z
      have om := oA.getD k
      generalize hme : A.getD k (fun _ => 0) = m at hm om
      refine x_iconst C (nI 1) rfl d_x_isIn4_18 ?_
      refine x_istore C rfl rfl d_x_isIn4_19 ?_
      dsimp only [xst]
      refine x_iconst C (nI 0) rfl d_x_isIn4_21 ?_
      refine x_istore C rfl rfl d_x_isIn4_22 ?_
      dsimp only [xst]
      refine x_for (fun i => Wx E 24 [.ref (q 0), .ref (q k1), .ref (q k2), .int (nI fr), .int (nI A.length), .int (bI (xall i (fun p => decide (m p ≤ w p)))), .int (nI k), .int (nI i)] [] σ) (nP N) (fun i hi ih2 => ?_) 0 (Nat.zero_le _)
      refine x_iload C rfl d_x_isIn4_24 ?_
      refine x_aload_n C rfl d_x_isIn4_26 ?_
      refine x_getv C K 0 rfl rfl h.1 d_x_isIn4_27 ?_
      refine x_icmpN_ge C (by omega) (by omega) d_x_isIn4_30 (fun z3 => ?_) (fun z3 => ?_)
      · have e : i = nP N := by omega
        rw [e, leM_P hN.1 (fun p h1 _ => by rw [om.2 p h1]; exact Nat.zero_le _)]
        refine x_iincN (b := 1) C rfl rfl d_x_isIn4_67 ?_
        dsimp only [xst]
        refine x_goto C d_x_isIn4_70 ?_
        refine x_take 7 ?_
        have ih' := ih z
        rw [take_any z, z2, hme, Bool.false_or] at ih'
        exact ih'
      · have b1 := bw i (by omega)
        have b2 := om.1 i
        refine x_iload C rfl d_x_isIn4_33 ?_
        refine x_aload_n C rfl d_x_isIn4_35 ?_
        refine x_iload C rfl d_x_isIn4_36 ?_
        refine x_iald C K hk1 hn1 (by omega) (hw i (by omega)) d_x_isIn4_38 ?_
        refine x_aload_n C rfl d_x_isIn4_39 ?_
        refine x_iload_n C rfl d_x_isIn4_40 ?_
        refine x_iconst C (nI 5) rfl d_x_isIn4_41 ?_
        refine x_iload C rfl d_x_isIn4_42 ?_
        refine x_imulN C d_x_isIn4_44 ?_
        refine x_iaddN C d_x_isIn4_45 ?_
        refine x_iload C rfl d_x_isIn4_46 ?_
        refine x_iaddN C d_x_isIn4_48 ?_
        refine x_sald C K hk2 hn2 (by omega) (hm i (by omega)) d_x_isIn4_49 ?_
        refine x_cmpB_lt C (by omega) (by omega) d_x_isIn4_50 d_x_isIn4_53 d_x_isIn4_54 d_x_isIn4_57 ?_
        refine x_iandB C d_x_isIn4_58 ?_
        refine x_istore C rfl rfl d_x_isIn4_59 ?_
        dsimp only [xst]
        refine x_iincN (b := 1) C rfl rfl d_x_isIn4_61 ?_
        dsimp only [xst]
        refine x_goto C d_x_isIn4_64 ?_
        exact ih2 z3
theorem c_x_isUnder (l : Launch) {σ : XS} {N : XNet} {k B B' : Nat} {w m : Mk} (hN : NOK N) (h : RX N σ) (hk : k < 1402) (hw : mk0 (σ 13) w) (ow : okM (nP N) B w) (hB : B < 2 ^ 31) (hm : mkAt (σ 11) (5 * k) m) (om : okM (nP N) B' m) (hB' : B' < 2 ^ 31) : XCi false l y_x_isUnder b_x_isUnder 4 .boolean 0 0 (fun q => [.ref (q 0), .int (nI k)]) σ (fun r σ' => r = bI (leM w m) ∧ σ = σ') := by
  refine XCi.of (by decide) rfl (fun _ => rfl) (fun _ => rfl) (fun E q cA hEl C K R => ?_)
  have hP5 := hN.1
  refine x_iconst C (nI 1) rfl d_x_isUnder_0 ?_
  refine x_istore_n C 2 rfl rfl rfl d_x_isUnder_1 ?_
  dsimp only [xst]
  refine x_iconst C (nI 0) rfl d_x_isUnder_2 ?_
  refine x_istore_n C 3 rfl rfl rfl d_x_isUnder_3 ?_
  dsimp only [xst]
  refine x_for (fun i => Wx E 4 [.ref (q 0), .int (nI k), .int (bI (xall i (fun p => decide (w p ≤ m p)))), .int (nI i)] [] σ) (nP N) (fun i hi ih => ?_) 0 (Nat.zero_le _)
  refine x_iload_n C rfl d_x_isUnder_4 ?_
  refine x_aload_n C rfl d_x_isUnder_5 ?_
  refine x_getv C K 0 rfl rfl h.1 d_x_isUnder_6 ?_
  refine x_icmpN_ge C (by omega) (by omega) d_x_isUnder_9 (fun z => ?_) (fun z => ?_)
  · have e : i = nP N := by omega
    rw [e, leM_P hN.1 (fun p h1 _ => by rw [ow.2 p h1]; exact Nat.zero_le _)]
    refine x_iload_n C rfl d_x_isUnder_45 ?_
    exact R (bI_nar _) ⟨rfl, rfl⟩ d_x_isUnder_46
  · have b1 := ow.1 i
    have b2 := om.1 i
    refine x_iload_n C rfl d_x_isUnder_12 ?_
    refine x_aload_n C rfl d_x_isUnder_13 ?_
    refine x_geta C K 13 rfl (by decide) d_x_isUnder_14 ?_
    refine x_iload_n C rfl d_x_isUnder_17 ?_
    refine x_iald C K (k := 13) (N := 5) rfl rfl (by omega) (hw i (by omega)) d_x_isUnder_18 ?_
    refine x_aload_n C rfl d_x_isUnder_19 ?_
    refine x_geta C K 11 rfl (by decide) d_x_isUnder_20 ?_
    refine x_iconst C (nI 5) rfl d_x_isUnder_23 ?_
    refine x_iload_n C rfl d_x_isUnder_24 ?_
    refine x_imulN C d_x_isUnder_25 ?_
    refine x_iload_n C rfl d_x_isUnder_26 ?_
    refine x_iaddN C d_x_isUnder_27 ?_
    refine x_sald C K (k := 11) (N := 7010) rfl rfl (by omega) (hm i (by omega)) d_x_isUnder_28 ?_
    refine x_cmpB_gt C (by omega) (by omega) d_x_isUnder_29 d_x_isUnder_32 d_x_isUnder_33 d_x_isUnder_36 ?_
    refine x_iandB C d_x_isUnder_37 ?_
    refine x_istore_n C 2 rfl rfl rfl d_x_isUnder_38 ?_
    dsimp only [xst]
    refine x_iincN (b := 1) C rfl rfl d_x_isUnder_39 ?_
    dsimp only [xst]
    refine x_goto C d_x_isUnder_42 ?_
    exact ih z
theorem c_x_add (l : Launch) {σ : XS} {N : XNet} {B : Nat} {w : Mk} {A : List Mk} (hN : NOK N) (h : RX N σ) (hB : B ≤ 10000) (hw : mk0 (σ 13) w) (ow : okM (nP N) B w) (hA : lsAt (σ 11) 0 A) (oA : okL (nP N) B A) (hl : A.length ≤ 1400) (hc : σ 12 0 = nI A.length) : XCi false l y_x_add b_x_add 3 .boolean 1 30 (fun q => [.ref (q 0)]) σ (fun r σ' => r = bI (!anyLe A w) ∧ frm [11, 12] σ σ' ∧ lsAt (σ' 11) 0 (addL A w) ∧ σ' 12 0 = nI (addL A w).length) := by
  refine XCi.of (by decide) rfl (fun _ => rfl) (fun _ => rfl) (fun E q cA hEl C K R => ?_)
  subst hEl
  refine x_aload_n C rfl d_x_add_0 ?_
  refine x_aload_n C rfl d_x_add_1 ?_
  refine x_geta C K 13 rfl (by decide) d_x_add_2 ?_
  refine x_aload_n C rfl d_x_add_5 ?_
  refine x_geta C K 11 rfl (by decide) d_x_add_6 ?_
  refine x_iconst C (nI 0) rfl d_x_add_9 ?_
  refine x_aload_n C rfl d_x_add_10 ?_
  refine x_getv C K 12 rfl rfl hc d_x_add_11 ?_
  refine x_callVi C K s_x_102 (c_x_isIn4 (e_l E) (k1 := 13) (n1 := 5) (k2 := 11) (fr := 0) hN h rfl rfl (by omega) rfl (n2 := 7010) rfl (by omega) hw (fun p _ => by have := ow.1 p; omega) hA oA (by omega)) rfl rfl rfl rfl rfl rfl d_x_add_14 (fun r σ' hr => ?_)
  obtain ⟨rfl, rfl⟩ := hr
  refine x_ifB_eq C d_x_add_17 (fun z0 => ?_) (fun z0 => ?_)
  · have key := x_forS (fun k f => Wx E 26 [.ref (q 0), .int (nI ((A.take k).filter (fun m => !leM w m)).length), .int (nI k)] [] (va_up σ 11 f)) (fun k f => lsAt f 0 ((A.take k).filter (fun m => !leM w m)) ∧ ∀ j, k ≤ j → j < A.length → mkAt f (5 * j) (A.getD j (fun _ => 0))) A.length (fun k f hk hI ih => ?_) 0 (σ 11) (Nat.zero_le _) ⟨fun k m hm => by simp at hm, fun j _ hj => by have := hA.get hj; rw [Nat.zero_add] at this; exact this⟩
    · refine x_iconst C (nI 0) rfl d_x_add_22 ?_
      refine x_istore_n C 1 rfl rfl rfl d_x_add_23 ?_
      dsimp only [xst]
      refine x_iconst C (nI 0) rfl d_x_add_24 ?_
      refine x_istore_n C 2 rfl rfl rfl d_x_add_25 ?_
      dsimp only [xst]
      rw [xueq] at key
      exact key
    · have hkl : ((A.take k).filter (fun m => !leM w m)).length ≤ k := Nat.le_trans (List.length_filter_le _ _) (by rw [List.length_take]; omega)
      refine x_iload_n C rfl d_x_add_26 ?_
      refine x_aload_n C rfl d_x_add_27 ?_
      refine x_getv C K 12 rfl rfl hc d_x_add_28 ?_
      refine x_icmpN_ge C (by omega) (by omega) d_x_add_31 (fun z => ?_) (fun z => ?_)
      · have eA : (A.take k).filter (fun m => !leM w m) = A.filter (fun m => !leM w m) := by rw [List.take_of_length_le z]
        rw [eA] at hI hkl ⊢
        generalize hF : A.filter (fun m => !leM w m) = F at hI hkl ⊢
        refine x_iconst C (nI 0) rfl d_x_add_69 ?_
        refine x_istore_n C 2 rfl rfl rfl d_x_add_70 ?_
        dsimp only [xst]
        have key2 := x_forS (fun i f => Wx E 71 [.ref (q 0), .int (nI F.length), .int (nI i)] [] (va_up σ 11 f)) (fun i f => lsAt f 0 F ∧ ∀ p, p < i → f (5 * F.length + p) = nI (w p)) 5 (fun i f hi hI2 ih2 => ?_) 0 f (Nat.zero_le _) ⟨hI.1, fun p hp => absurd hp (by omega)⟩
        · exact key2
        · refine x_iload_n C rfl d_x_add_71 ?_
          refine x_iconst C (nI 5) rfl d_x_add_72 ?_
          refine x_icmpN_ge C (by omega) (by omega) d_x_add_73 (fun z2 => ?_) (fun z2 => ?_)
          · refine x_aload_n C rfl d_x_add_99 ?_
            refine x_iload_n C rfl d_x_add_100 ?_
            refine x_iconst C (nI 1) rfl d_x_add_101 ?_
            refine x_iaddN C d_x_add_102 ?_
            refine x_puti C K 12 rfl rfl rfl d_x_add_103 ?_
            refine x_iconst C (nI 1) rfl d_x_add_106 ?_
            have eL : addL A w = F ++ [w] := by rw [addL, if_neg (by simp [z0]), hF]
            refine R (bI_nar true) ⟨by rw [z0]; rfl, ?_, ?_, ?_⟩ d_x_add_107
            · exact ((frm.rf _ σ).up (by decide) _).up (by decide) _
            · rw [eL]
              refine lsAt_app hI2.1 (fun p hp => ?_)
              rw [Nat.zero_add]
              exact hI2.2 p (by omega)
            · rw [eL, List.length_append]; rfl
          · have bw := ow.1 i
            refine x_aload_n C rfl d_x_add_76 ?_
            refine x_geta C K 11 rfl (by decide) d_x_add_77 ?_
            refine x_iconst C (nI 5) rfl d_x_add_80 ?_
            refine x_iload_n C rfl d_x_add_81 ?_
            refine x_imulN C d_x_add_82 ?_
            refine x_iload_n C rfl d_x_add_83 ?_
            refine x_iaddN C d_x_add_84 ?_
            refine x_aload_n C rfl d_x_add_85 ?_
            refine x_geta C K 13 rfl (by decide) d_x_add_86 ?_
            refine x_iload_n C rfl d_x_add_89 ?_
            refine x_iald C K (k := 13) (N := 5) rfl rfl (by omega) (hw i (by omega)) d_x_add_90 ?_
            refine x_i2s C _ (nI_i16 (by omega)) d_x_add_91 ?_
            refine x_sast C K (k := 11) (N := 7010) rfl rfl (by omega) (nI_i16 (by omega)) d_x_add_92 ?_
            refine x_iincN (b := 1) C rfl rfl d_x_add_93 ?_
            dsimp only [xst]
            refine x_goto C d_x_add_96 ?_
            rw [xuu, xus]
            refine ih2 _ z2 ⟨lsAt_congr hI2.1 (fun j _ hj => upd_n _ _ (by omega)), fun p hp => ?_⟩
            by_cases e : p = i
            · rw [e, upd_s]
            · rw [upd_n _ _ (by omega)]; exact hI2.2 p (by omega)
      · have hm := hI.2 k (Nat.le_refl _) z
        have om := oA.getD k
        refine x_aload_n C rfl d_x_add_34 ?_
        refine x_iload_n C rfl d_x_add_35 ?_
        refine x_callVi C K s_x_105 (c_x_isUnder (e_l E) (B := B) (B' := B) (w := w) (m := A.getD k (fun _ => 0)) hN h (by omega) hw ow (by omega) hm om (by omega)) rfl rfl rfl rfl rfl rfl d_x_add_36 (fun r σ' hr => ?_)
        obtain ⟨rfl, rfl⟩ := hr
        refine x_ifB_ne C d_x_add_39 (fun z2 => ?_) (fun z2 => ?_)
        · refine x_iincN (b := 1) C rfl rfl d_x_add_63 ?_
          dsimp only [xst]
          refine x_goto C d_x_add_66 ?_
          have eF : (A.take (k + 1)).filter (fun m => !leM w m) = (A.take k).filter (fun m => !leM w m) := by rw [take_filter z, z2]; simp
          have := ih f z ⟨by rw [eF]; exact hI.1, fun j h1 h2 => hI.2 j (by omega) h2⟩
          rw [eF] at this
          exact this
        · have eF : (A.take (k + 1)).filter (fun m => !leM w m) = (A.take k).filter (fun m => !leM w m) ++ [A.getD k (fun _ => 0)] := by rw [take_filter z, z2]; simp
          generalize hF : (A.take k).filter (fun m => !leM w m) = F at hI hkl eF ⊢
          refine x_aload_n C rfl d_x_add_42 ?_
          refine x_geta C K 11 rfl (by decide) d_x_add_43 ?_
          refine x_iconst C (nI 5) rfl d_x_add_46 ?_
          refine x_iload_n C rfl d_x_add_47 ?_
          refine x_imulN C d_x_add_48 ?_
          refine x_aload_n C rfl d_x_add_49 ?_
          refine x_geta C K 11 rfl (by decide) d_x_add_50 ?_
          refine x_iconst C (nI 5) rfl d_x_add_53 ?_
          refine x_iload_n C rfl d_x_add_54 ?_
          refine x_iincN (b := 1) C rfl rfl d_x_add_55 ?_
          dsimp only [xst]
          refine x_imulN C d_x_add_58 ?_
          refine x_iconst C (nI 5) rfl d_x_add_59 ?_
          refine x_copy C K 3 (Or.inr (Or.inr rfl)) rfl rfl (N0 := 7010) (N1 := 7010) rfl rfl (by omega) (by omega) (fun i hi => ?_) (by omega) (by omega) (by decide) d_x_add_60 ?_
          · have := om.1 i
            rw [show (va_up σ 11 f) 11 (5 * k + i) = nI (A.getD k (fun _ => 0) i) from hm i hi]
            exact nI_fit16 (by omega)
          · refine x_iincN (b := 1) C rfl rfl d_x_add_63 ?_
            dsimp only [xst]
            refine x_goto C d_x_add_66 ?_
            rw [xuu, xus]
            have := ih (va_cpy f f (5 * k) (5 * F.length) 5) z ⟨?_, fun j h1 h2 p hp => ?_⟩
            · rw [eF, List.length_append] at this
              exact this
            · rw [eF]
              refine lsAt_app (lsAt_congr hI.1 (fun j _ hj => pk_cpy_out (Or.inl (by omega)))) (fun p hp => ?_)
              rw [pk_cpy_in (by omega) (by omega)]
              rw [show 5 * k + (0 + 5 * F.length + p - 5 * F.length) = 5 * k + p by omega]
              exact hm p hp
            · rw [pk_cpy_out (Or.inr (by omega))]
              exact hI.2 j (by omega) h2 p hp
  · refine x_iconst C (nI 0) rfl d_x_add_20 ?_
    have eL : addL A w = A := by rw [addL, if_pos z0]
    exact R (bI_nar false) ⟨by rw [z0]; rfl, frm.rf _ _, by rw [eL]; exact hA, by rw [eL]; exact hc⟩ d_x_add_21
end
section
theorem c_x_keep (l : Launch) {σ : XS} {N : XNet} {r B : Nat} {A : List Mk} (hr : r ≤ 60) (hA : lsAt (σ 11) 0 A) (oA : okL (nP N) B A) (hB : B ≤ 10000) (hl : A.length ≤ 1401) (hc : σ 12 0 = nI A.length) : XCv false l y_x_keep b_x_keep 2 1 26 (fun q => [.ref (q 0), .int (nI r)]) σ (fun σ' => frm [7, 8] σ σ' ∧ σ' 8 r = nI A.length ∧ (∀ j, j < r → σ' 8 j = σ 8 j) ∧ (A.length ≤ 200 → lsAt (σ' 7) (1000 * r) A) ∧ ∀ j, j < 1000 * r → σ' 7 j = σ 7 j) := by
  refine XCv.of (by decide) rfl (fun _ => rfl) (fun _ => rfl) (fun E q cA hEl C K R => ?_)
  subst hEl
  refine x_aload_n C rfl d_x_keep_0 ?_
  refine x_geta C K 8 rfl (by decide) d_x_keep_1 ?_
  refine x_iload_n C rfl d_x_keep_4 ?_
  refine x_aload_n C rfl d_x_keep_5 ?_
  refine x_getv C K 12 rfl rfl hc d_x_keep_6 ?_
  refine x_iast C K (k := 8) (N := 61) rfl rfl (by omega) d_x_keep_9 ?_
  refine x_aload_n C rfl d_x_keep_10 ?_
  refine x_getv C K 12 rfl rfl hc d_x_keep_11 ?_
  refine x_sipush C (nI 200) (by decide) d_x_keep_14 ?_
  refine x_icmpN_gt C (by omega) (by omega) d_x_keep_17 (fun z => ?_) (fun z => ?_)
  · refine R ⟨(frm.rf _ σ).up (by decide) _, ?_, fun j hj => ?_, fun h => absurd h (by omega), fun _ _ => rfl⟩ d_x_keep_43
    · rw [xus, upd_s]
    · rw [xus, upd_n _ _ (by omega)]
  · refine x_aload_n C rfl d_x_keep_20 ?_
    refine x_geta C K 11 rfl (by decide) d_x_keep_21 ?_
    refine x_iconst C (nI 0) rfl d_x_keep_24 ?_
    refine x_aload_n C rfl d_x_keep_25 ?_
    refine x_geta C K 7 rfl (by decide) d_x_keep_26 ?_
    refine x_iload_n C rfl d_x_keep_29 ?_
    refine x_iconst C (nI 0) rfl d_x_keep_30 ?_
    refine x_callSi C K s_x_108 (c_x_at (e_l E) r 0) rfl rfl rfl rfl rfl rfl d_x_keep_31 (fun v σ' hr => ?_)
    obtain ⟨rfl, rfl⟩ := hr
    refine x_iconst C (nI 5) rfl d_x_keep_34 ?_
    refine x_aload_n C rfl d_x_keep_35 ?_
    refine x_getv C K 12 rfl rfl hc d_x_keep_36 ?_
    refine x_imulN C d_x_keep_39 ?_
    refine x_copy C K 3 (Or.inr (Or.inr rfl)) rfl rfl (N0 := 7010) (N1 := 61000) rfl rfl (by omega) (by omega) (fun i hi => ?_) (by omega) (by omega) (by decide) d_x_keep_40 ?_
    · have hk : i / 5 < A.length := by omega
      have := hA.get hk (i % 5) (by omega)
      have e : 0 + 5 * (i / 5) + i % 5 = 0 + i := by omega
      rw [e] at this
      rw [show (va_up σ 8 (upd (σ 8) r (nI A.length))) 11 (0 + i) = σ 11 (0 + i) from rfl, this]
      exact nI_fit16 (by have := (oA.getD (i / 5)).1 (i % 5); omega)
    · refine R ⟨((frm.rf _ σ).up (by decide) _).up (by decide) _, ?_, fun j hj => ?_, fun _ => ?_, fun j hj => ?_⟩ d_x_keep_43
      · show upd (σ 8) r (nI A.length) r = _
        rw [upd_s]
      · show upd (σ 8) r (nI A.length) j = _
        rw [upd_n _ _ (by omega)]
      · rw [xus]
        intro k m hm p hp
        have hk : k < A.length := (List.getElem?_eq_some_iff.mp hm).1
        rw [pk_cpy_in (by omega) (by omega)]
        have := hA k m hm p hp
        rw [show 0 + (1000 * r + 5 * k + p - 5 * (200 * r + 0)) = 0 + 5 * k + p by omega]
        exact this
      · rw [xus, pk_cpy_out (Or.inl (by omega))]
        rfl
theorem max_pre {t b g : Nat} (ht : t < 2 ^ 20) (hb : b < 2 ^ 20) (hg : g < 2 ^ 20) : (if nI t < nI (b + t) - nI g then nI (b + t) - nI g else nI t) = nI (t + (b - g)) := by
  by_cases h : g ≤ b + t
  · rw [pk_sub h]
    by_cases h2 : t < b + t - g
    · rw [if_pos (nI_lt h2 (by omega))]
      congr 1
      omega
    · rw [if_neg (nI_nlt (by omega) (by omega))]
      congr 1
      omega
  · have h3 : nI (b + t) - nI g < 0 := pk_sneg (by omega) (by omega)
    rw [if_neg (fun h4 => nI_pos (n := t) (by omega) (Int32.lt_trans h4 h3))]
    congr 1
    omega
section XMx
variable {E : XE} {cc : ByteArray} {nL fr lo pc n : Nat} {L st : List Value} {σ : XS}
theorem x_max (C : XOk E cc nL "CoverRounds" fr lo) {x y : Int32} (hfr : 1 ≤ fr) (hlo : 21 ≤ lo) (hst : (st.map fun v => v.category).sum ≤ 8) (d : xd cc pc (.invokestatic 112) 3 n) (kk : Wx E n L (.int (if x < y then y else x) :: st) σ) : Wx E pc L (.int y :: .int x :: st) σ := by
  obtain ⟨d, rfl⟩ := d
  intro H locs ls hP hD hS hl
  have hts := C.2.2.2.2.1
  obtain ⟨ta, tb, tc, td⟩ := tb_mx
  refine va_mmax C.1 C.2.1 hl.1.symm C.2.2.2.1 (hts _ ta) (hts _ tb) (hts _ tc) (hts _ td) (Nat.le_trans hfr C.2.2.2.2.2.2.1) ?_ C.2.2.2.2.2.2.2.2.1 C.2.2.2.2.2.2.2.2.2 d (kk H locs ls hP hD hS hl)
  have := C.2.2.2.2.2.2.2.1
  omega
end XMx
theorem c_x_go (l : Launch) {σ : XS} {N : XNet} {r B : Nat} {A : List Mk} (hN : NOK N) (h : RX N σ) (hr : r < 60) (hl : A.length ≤ 200) (hc8 : σ 8 r = nI A.length) (hb : lsAt (σ 7) (1000 * r) A) (hA : lsAt (σ 11) 0 A) (oA : okL (nP N) B A) (hB : B ≤ 9000) (hc : σ 12 0 = nI A.length) : XCi false l y_x_go b_x_go 8 .boolean 2 60 (fun q => [.ref (q 0), .int (nI (r + 1))]) σ (fun v σ' => v = bI (stp N A).2 ∧ frm [7, 8, 11, 12, 13] σ σ' ∧ lsAt (σ' 11) 0 (stp N A).1 ∧ σ' 12 0 = nI (stp N A).1.length ∧ σ' 8 (r + 1) = nI (stp N A).1.length ∧ (∀ j, j < r + 1 → σ' 8 j = σ 8 j) ∧ ((stp N A).1.length ≤ 200 → lsAt (σ' 7) (1000 * (r + 1)) (stp N A).1) ∧ ∀ j, j < 1000 * (r + 1) → σ' 7 j = σ 7 j) := by
  refine XCi.of (by decide) rfl (fun _ => rfl) (fun _ => rfl) (fun E q cA hEl C K R => ?_)
  subst hEl
  have h5 := hN.1
  have h6 := hN.2.1
  refine x_aload_n C rfl d_x_go_0 ?_
  refine x_geta C K 8 rfl (by decide) d_x_go_1 ?_
  refine x_iload_n C rfl d_x_go_4 ?_
  refine x_iconst C (nI 1) rfl d_x_go_5 ?_
  refine x_isubN C (by omega) d_x_go_6 ?_
  refine x_iald C K (k := 8) (N := 61) rfl rfl (by omega) hc8 d_x_go_7 ?_
  refine x_istore_n C 2 rfl rfl rfl d_x_go_8 ?_
  dsimp only [xst]
  refine x_iconst C (nI 0) rfl d_x_go_9 ?_
  refine x_istore_n C 3 rfl rfl rfl d_x_go_10 ?_
  dsimp only [xst]
  refine x_iconst C (nI 0) rfl d_x_go_11 ?_
  refine x_istore C rfl rfl d_x_go_12 ?_
  dsimp only [xst]
  refine x_forS (fun k τ => Wx E 14 [.ref (q 0), .int (nI (r + 1)), .int (nI A.length), .int (bI (gK N A k (A, false)).2), .int (nI k)] [] τ) (fun k τ => frm [11, 12, 13] σ τ ∧ lsAt (τ 11) 0 (gK N A k (A, false)).1 ∧ τ 12 0 = nI (gK N A k (A, false)).1.length) A.length (fun k τ hk hI ih => ?_) 0 σ (Nat.zero_le _) ⟨frm.rf _ _, hA, hc⟩
  obtain ⟨f1, l1, c1⟩ := hI
  have g1 := gK_len N A (A, false) k
  have ok1 := okL.gK hN oA (S := (A, false)) (oA.mono (by omega)) k
  have mul1 : k * nT N ≤ 200 * 6 := Nat.mul_le_mul (by omega) h6
  have g1' : (gK N A k (A, false)).1.length ≤ A.length + k * nT N := g1
  refine x_iload C rfl d_x_go_14 ?_
  refine x_iload_n C rfl d_x_go_16 ?_
  refine x_icmpN_ge C (by omega) (by omega) d_x_go_17 (fun z => ?_) (fun z => ?_)
  · have e : k = A.length := by omega
    subst e
    refine x_aload_n C rfl d_x_go_124 ?_
    refine x_iload_n C rfl d_x_go_125 ?_
    refine x_callVv C K s_x_121 (c_x_keep (e_l E) (N := N) (by omega) l1 ok1 (by omega) (by omega) c1) rfl rfl rfl rfl rfl rfl d_x_go_126 (fun σ' hs => ?_)
    obtain ⟨s1, s2, s3, s4, s5⟩ := hs
    refine x_iload_n C rfl d_x_go_129 ?_
    refine R (bI_nar _) ⟨rfl, (f1.mo (by decide)).tr s1 (by decide), ?_, ?_, s2, fun j hj => ?_, s4, fun j hj => ?_⟩ d_x_go_130
    · rw [s1 11 (by decide)]; exact l1
    · rw [s1 12 (by decide)]; exact c1
    · rw [s3 j hj, f1 8 (by decide)]
    · rw [s5 j hj, f1 7 (by decide)]
  · have hm := hb.get z
    have om := oA.getD k
    have eS : gK N A (k + 1) (A, false) = gT N (A.getD k (fun _ => 0)) (nT N) (gK N A k (A, false)) := rfl
    have mul2 : k * nT N ≤ 199 * 6 := Nat.mul_le_mul (by omega) h6
    rw [eS] at ih
    generalize hS : gK N A k (A, false) = S at *
    generalize hme : A.getD k (fun _ => 0) = m at *
    refine x_iconst C (nI 0) rfl d_x_go_20 ?_
    refine x_istore C rfl rfl d_x_go_21 ?_
    dsimp only [xst]
    refine x_forS (fun t τ => Wx E 23 [.ref (q 0), .int (nI (r + 1)), .int (nI A.length), .int (bI (gT N m t S).2), .int (nI k), .int (nI t)] [] τ) (fun t τ => frm [11, 12, 13] σ τ ∧ lsAt (τ 11) 0 (gT N m t S).1 ∧ τ 12 0 = nI (gT N m t S).1.length) (nT N) (fun t τ ht hI2 ih2 => ?_) 0 τ (Nat.zero_le _) ⟨f1, l1, c1⟩
    obtain ⟨f2, l2, c2⟩ := hI2
    have hT : RX N τ := h.fr f2 (by decide)
    have g2 := gT_len N m S t
    refine x_iload C rfl d_x_go_23 ?_
    refine x_aload_n C rfl d_x_go_25 ?_
    refine x_getv C K 1 rfl rfl hT.2.1 d_x_go_26 ?_
    refine x_icmpN_ge C (by omega) (by omega) d_x_go_29 (fun z2 => ?_) (fun z2 => ?_)
    · have e : t = nT N := by omega
      subst e
      refine x_iincN (b := 1) C rfl rfl d_x_go_118 ?_
      dsimp only [xst]
      refine x_goto C d_x_go_121 ?_
      refine x_take 5 ?_
      exact ih τ z ⟨f2, l2, c2⟩
    · refine x_iconst C (nI 0) rfl d_x_go_32 ?_
      refine x_istore C rfl rfl d_x_go_33 ?_
      dsimp only [xst]
      have key := x_forS (fun i f => Wx E 35 [.ref (q 0), .int (nI (r + 1)), .int (nI A.length), .int (bI (gT N m t S).2), .int (nI k), .int (nI t), .int (nI i)] [] (va_up τ 13 f)) (fun i f => ∀ p, p < i → f p = nI (preM N t m p)) 5 (fun i f hi hI3 ih3 => ?_) 0 (τ 13) (Nat.zero_le _) (fun p hp => absurd hp (by omega))
      · rw [xueq] at key
        exact key
      · refine x_iload C rfl d_x_go_35 ?_
        refine x_iconst C (nI 5) rfl d_x_go_37 ?_
        refine x_icmpN_ge C (by omega) (by omega) d_x_go_38 (fun z3 => ?_) (fun z3 => ?_)
        · have ok2 := okL.gT hN om ok1 t
          refine x_iload_n C rfl d_x_go_105 ?_
          refine x_aload_n C rfl d_x_go_106 ?_
          refine x_callVi C K s_x_117 (c_x_add (e_l E) (B := B + 5) (w := preM N t m) (A := (gT N m t S).1) hN hT (by omega) (fun p hp => hI3 p (by omega)) (om.pre hN) l2 ok2 (by omega) c2) rfl rfl rfl rfl rfl rfl d_x_go_107 (fun v σ' hv => ?_)
          obtain ⟨rfl, s1, s2, s3⟩ := hv
          refine x_iorB C d_x_go_110 ?_
          refine x_istore_n C 3 rfl rfl rfl d_x_go_111 ?_
          dsimp only [xst]
          refine x_iincN (b := 1) C rfl rfl d_x_go_112 ?_
          dsimp only [xst]
          refine x_goto C d_x_go_115 ?_
          refine x_take 6 ?_
          exact ih2 σ' z2 ⟨(f2.up (by decide) f).tr s1 (by decide), s2, s3⟩
        · have htk := hT.2.2.2.2.1 t i (by omega) (by omega)
          have hgv := hT.2.2.2.2.2 t i (by omega) (by omega)
          have bt := hN.2.2.2.2.1 t i
          have bg := hN.2.2.2.2.2.1 t i
          have bm := om.1 i
          have hbs : va_up τ 13 f 7 (5 * (200 * r + k) + i) = nI (m i) := by
            show τ 7 _ = _
            rw [f2 7 (by decide), show 5 * (200 * r + k) + i = 1000 * r + 5 * k + i by omega]
            exact hm i (by omega)
          refine x_aload_n C rfl d_x_go_41 ?_
          refine x_geta C K 5 rfl (by decide) d_x_go_42 ?_
          refine x_iconst C (nI 5) rfl d_x_go_45 ?_
          refine x_iload C rfl d_x_go_46 ?_
          refine x_imulN C d_x_go_48 ?_
          refine x_iload C rfl d_x_go_49 ?_
          refine x_iaddN C d_x_go_51 ?_
          refine x_bald C K (k := 5) (N := 30) rfl rfl (by omega) htk d_x_go_52 ?_
          refine x_istore C rfl rfl d_x_go_53 ?_
          dsimp only [xst]
          refine x_aload_n C rfl d_x_go_55 ?_
          refine x_geta C K 13 rfl (by decide) d_x_go_56 ?_
          refine x_iload C rfl d_x_go_59 ?_
          refine x_iload C rfl d_x_go_61 ?_
          refine x_aload_n C rfl d_x_go_63 ?_
          refine x_geta C K 7 rfl (by decide) d_x_go_64 ?_
          refine x_iload_n C rfl d_x_go_67 ?_
          refine x_iconst C (nI 1) rfl d_x_go_68 ?_
          refine x_isubN C (by omega) d_x_go_69 ?_
          refine x_iload C rfl d_x_go_70 ?_
          refine x_callSi C K s_x_108 (c_x_at (e_l E) r k) rfl rfl rfl rfl rfl rfl d_x_go_72 (fun v σ' hr => ?_)
          obtain ⟨rfl, rfl⟩ := hr
          refine x_iload C rfl d_x_go_75 ?_
          refine x_iaddN C d_x_go_77 ?_
          refine x_sald C K (k := 7) (N := 61000) rfl rfl (by omega) hbs d_x_go_78 ?_
          refine x_iload C rfl d_x_go_79 ?_
          refine x_iaddN C d_x_go_81 ?_
          refine x_aload_n C rfl d_x_go_82 ?_
          refine x_geta C K 6 rfl (by decide) d_x_go_83 ?_
          refine x_iconst C (nI 5) rfl d_x_go_86 ?_
          refine x_iload C rfl d_x_go_87 ?_
          refine x_imulN C d_x_go_89 ?_
          refine x_iload C rfl d_x_go_90 ?_
          refine x_iaddN C d_x_go_92 ?_
          refine x_bald C K (k := 6) (N := 30) rfl rfl (by omega) hgv d_x_go_93 ?_
          refine x_isub C d_x_go_94 ?_
          refine x_max C (by omega) (by omega) (Nat.le_of_ble_eq_true rfl) d_x_go_95 ?_
          rw [max_pre (by omega) (by omega) (by omega)]
          refine x_iast C K (k := 13) (N := 5) rfl rfl (by omega) d_x_go_98 ?_
          refine x_iincN (b := 1) C rfl rfl d_x_go_99 ?_
          dsimp only [xst]
          refine x_goto C d_x_go_102 ?_
          rw [xuu, xus]
          refine x_take 7 ?_
          refine ih3 _ z3 (fun p hp => ?_)
          by_cases e : p = i
          · rw [e, upd_s]; rfl
          · rw [upd_n _ _ e]; exact hI3 p (by omega)
end
section
theorem stM_le {N : XNet} (hN : NOK N) {t p B : Nat} {x : Mk} (h : x p ≤ B) : stM N t x p ≤ B + 5 := by
  have := hN.2.2.2.2.2.1 t p
  show x p + ngv N t p - ntk N t p ≤ _
  omega
theorem c_x_leadsInto (l : Launch) {σ : XS} {N : XNet} {t j : Nat} {x : Mk} (hN : NOK N) (h : RX N σ) (ht : t < 6) (hj : j ≤ 60) (hx : mk0 (σ 14) x) (bx : ∀ p, x p ≤ 10000) (hl : (rnd N j).length ≤ 200) (hb : lsAt (σ 7) (1000 * j) (rnd N j)) (hc : σ 8 j = nI (rnd N j).length) : XCi false l y_x_leadsInto b_x_leadsInto 3 .boolean 1 30 (fun q => [.ref (q 0), .int (nI t), .int (nI j)]) σ (fun r σ' => r = bI (ldB N j t x) ∧ frm [13] σ σ') := by
  refine XCi.of (by decide) rfl (fun _ => rfl) (fun _ => rfl) (fun E q cA hEl C K R => ?_)
  subst hEl
  refine x_aload_n C rfl d_x_leadsInto_0 ?_
  refine x_iload_n C rfl d_x_leadsInto_1 ?_
  refine x_aload_n C rfl d_x_leadsInto_2 ?_
  refine x_geta C K 14 rfl (by decide) d_x_leadsInto_3 ?_
  refine x_iconst C (nI 0) rfl d_x_leadsInto_6 ?_
  refine x_callVi C K s_x_91 (c_x_canFireN (e_l E) (k2 := 14) (n2 := 5) (fr := 0) hN h rfl rfl (by omega) ht (fun p hp => by rw [Nat.zero_add]; exact hx p hp) (fun p _ => by have := bx p; omega)) rfl rfl rfl rfl rfl rfl d_x_leadsInto_7 (fun r σ' hr => ?_)
  obtain ⟨rfl, rfl⟩ := hr
  refine x_ifB_ne C d_x_leadsInto_10 (fun z => ?_) (fun z => ?_)
  · refine x_aload_n C rfl d_x_leadsInto_15 ?_
    refine x_geta C K 14 rfl (by decide) d_x_leadsInto_16 ?_
    refine x_iconst C (nI 0) rfl d_x_leadsInto_19 ?_
    refine x_aload_n C rfl d_x_leadsInto_20 ?_
    refine x_geta C K 13 rfl (by decide) d_x_leadsInto_21 ?_
    refine x_iconst C (nI 0) rfl d_x_leadsInto_24 ?_
    refine x_iconst C (nI 5) rfl d_x_leadsInto_25 ?_
    refine x_copy C K 1 (Or.inl rfl) rfl rfl (N0 := 5) (N1 := 5) rfl rfl (by omega) (by omega) (fun _ _ => rfl) (by omega) (by omega) (by decide) d_x_leadsInto_26 ?_
    have hw : mk0 ((va_up σ 13 (va_cpy (σ 14) (σ 13) 0 0 5)) 13) x := fun p hp => by
      rw [xus, pk_cpy_in (by omega) (by omega)]
      simpa using hx p hp
    have f1 : frm [13] σ (va_up σ 13 (va_cpy (σ 14) (σ 13) 0 0 5)) := (frm.rf _ σ).up (by decide) _
    have h1 : RX N (va_up σ 13 (va_cpy (σ 14) (σ 13) 0 0 5)) := h.fr f1 (by decide)
    generalize va_up σ 13 (va_cpy (σ 14) (σ 13) 0 0 5) = τ at hw f1 h1 ⊢
    refine x_aload_n C rfl d_x_leadsInto_29 ?_
    refine x_iload_n C rfl d_x_leadsInto_30 ?_
    refine x_aload_n C rfl d_x_leadsInto_31 ?_
    refine x_geta C K 13 rfl (by decide) d_x_leadsInto_32 ?_
    refine x_callVv C K s_x_95 (c_x_step (e_l E) (k2 := 13) (n2 := 5) hN h1 rfl rfl (by omega) ht hw (leM_iff.mp z)) rfl rfl rfl rfl rfl rfl d_x_leadsInto_35 (fun σ' hs => ?_)
    obtain ⟨f, rfl, hf⟩ := hs
    have hc' : va_up τ 13 f 8 j = nI (rnd N j).length := by
      show τ 8 j = _
      rw [f1 8 (by decide)]; exact hc
    have hb' : lsAt (va_up τ 13 f 7) (5 * (200 * j + 0)) (rnd N j) := by
      show lsAt (τ 7) _ _
      rw [f1 7 (by decide), show 5 * (200 * j + 0) = 1000 * j by omega]; exact hb
    refine x_aload_n C rfl d_x_leadsInto_38 ?_
    refine x_aload_n C rfl d_x_leadsInto_39 ?_
    refine x_geta C K 13 rfl (by decide) d_x_leadsInto_40 ?_
    refine x_aload_n C rfl d_x_leadsInto_43 ?_
    refine x_geta C K 7 rfl (by decide) d_x_leadsInto_44 ?_
    refine x_iload_n C rfl d_x_leadsInto_47 ?_
    refine x_iconst C (nI 0) rfl d_x_leadsInto_48 ?_
    refine x_callSi C K s_x_108 (c_x_at (e_l E) j 0) rfl rfl rfl rfl rfl rfl d_x_leadsInto_49 (fun v σ' hr => ?_)
    obtain ⟨rfl, rfl⟩ := hr
    refine x_aload_n C rfl d_x_leadsInto_52 ?_
    refine x_geta C K 8 rfl (by decide) d_x_leadsInto_53 ?_
    refine x_iload_n C rfl d_x_leadsInto_56 ?_
    refine x_iald C K (k := 8) (N := 61) rfl rfl (by omega) hc' d_x_leadsInto_57 ?_
    refine x_callVi C K s_x_102 (c_x_isIn4 (e_l E) (k1 := 13) (n1 := 5) (k2 := 7) (n2 := 61000) (fr := 5 * (200 * j + 0)) (w := stM N t x) (B := 20 + 5 * j) hN h1 rfl rfl (by omega) rfl rfl (by omega) hf (fun p _ => by have := stM_le hN (t := t) (bx p); omega) hb' (okL.rnd hN j) (by omega)) rfl rfl rfl rfl rfl rfl d_x_leadsInto_58 (fun r σ' hr => ?_)
    obtain ⟨rfl, rfl⟩ := hr
    refine R (bI_nar _) ⟨?_, f1.up (by decide) f⟩ d_x_leadsInto_61
    rw [ldB, z]; rfl
  · refine x_iconst C (nI 0) rfl d_x_leadsInto_13 ?_
    refine R (bI_nar false) ⟨?_, frm.rf _ _⟩ d_x_leadsInto_14
    rw [ldB, z]; rfl
theorem c_x_find (l : Launch) {σ : XS} {N : XNet} {i : Nat} (hN : NOK N) (h : RX N σ) (hi : i ≤ 60) (e1 : fin N i = true) (e2 : ∀ j, j < i → fin N j = false) (hl : ∀ j, j < i → (rnd N j).length ≤ 200) (hb : ∀ j, j < i → lsAt (σ 7) (1000 * j) (rnd N j)) (hc : ∀ j, j < i → σ 8 j = nI (rnd N j).length) : XCv false l y_x_find b_x_find 4 2 60 (fun q => [.ref (q 0), .int (nI i)]) σ (fun σ' => frm [13, 14, 15] σ σ' ∧ ∀ k, k < i → σ' 15 k = nI (wrow N i k)) := by
  refine XCv.of (by decide) rfl (fun _ => rfl) (fun _ => rfl) (fun E q cA hEl C K R => ?_)
  subst hEl
  have h6 := hN.2.1
  refine x_aload_n C rfl d_x_find_0 ?_
  refine x_geta C K 2 rfl (by decide) d_x_find_1 ?_
  refine x_iconst C (nI 0) rfl d_x_find_4 ?_
  refine x_aload_n C rfl d_x_find_5 ?_
  refine x_geta C K 14 rfl (by decide) d_x_find_6 ?_
  refine x_iconst C (nI 0) rfl d_x_find_9 ?_
  refine x_iconst C (nI 5) rfl d_x_find_10 ?_
  refine x_copy C K 1 (Or.inl rfl) rfl rfl (N0 := 5) (N1 := 5) rfl rfl (by omega) (by omega) (fun _ _ => rfl) (by omega) (by omega) (by decide) d_x_find_11 ?_
  have hw : mk0 ((va_up σ 14 (va_cpy (σ 2) (σ 14) 0 0 5)) 14) (nfi N) := fun p hp => by
    rw [xus, pk_cpy_in (by omega) (by omega)]
    simpa using h.2.2.1 p hp
  refine x_iconst C (nI 0) rfl d_x_find_14 ?_
  refine x_istore_n C 2 rfl rfl rfl d_x_find_15 ?_
  dsimp only [xst]
  refine x_forS (fun k τ => Wx E 16 [.ref (q 0), .int (nI i), .int (nI k)] [] τ) (fun k τ => frm [13, 14, 15] σ τ ∧ mk0 (τ 14) (wx N i k) ∧ ∀ j, j < k → τ 15 j = nI (wrow N i j)) i (fun k τ hk hI ih => ?_) 0 (va_up σ 14 (va_cpy (σ 2) (σ 14) 0 0 5)) (Nat.zero_le _) ⟨(frm.rf _ σ).up (by decide) _, hw, fun j hj => absurd hj (by omega)⟩
  obtain ⟨f1, x1, r1⟩ := hI
  refine x_iload_n C rfl d_x_find_16 ?_
  refine x_iload_n C rfl d_x_find_17 ?_
  refine x_icmpN_ge C (by omega) (by omega) d_x_find_18 (fun z => ?_) (fun z => ?_)
  · have e : k = i := by omega
    subst e
    exact R ⟨f1, r1⟩ d_x_find_65
  · obtain ⟨o1, o2, o3⟩ := wx_ok hN e1 e2 k hk
    have ej : i - k = (i - k - 1) + 1 := by omega
    rw [ej] at o1
    obtain ⟨t1, t2, t3⟩ := tOf_spec hN o1 (o2 (i - k - 1) (by omega))
    have ew : wrow N i k = tOf N (i - k - 1) (wx N i k) := rfl
    rw [← ew] at t1 t2 t3
    refine x_iconst C (nI 0) rfl d_x_find_21 ?_
    refine x_istore_n C 3 rfl rfl rfl d_x_find_22 ?_
    dsimp only [xst]
    refine x_forS (fun t τ => Wx E 23 [.ref (q 0), .int (nI i), .int (nI k), .int (nI t)] [] τ) (fun t τ => frm [13, 14, 15] σ τ ∧ mk0 (τ 14) (wx N i k) ∧ ∀ j, j < k → τ 15 j = nI (wrow N i j)) (wrow N i k) (fun t τ ht hI2 ih2 => ?_) 0 τ (Nat.zero_le _) ⟨f1, x1, r1⟩
    obtain ⟨f2, x2, r2⟩ := hI2
    have hT : RX N τ := h.fr f2 (by decide)
    refine x_aload_n C rfl d_x_find_23 ?_
    refine x_iload_n C rfl d_x_find_24 ?_
    refine x_iload_n C rfl d_x_find_25 ?_
    refine x_iload_n C rfl d_x_find_26 ?_
    refine x_isubN C (by omega) d_x_find_27 ?_
    refine x_iconst C (nI 1) rfl d_x_find_28 ?_
    refine x_isubN C (by omega) d_x_find_29 ?_
    refine x_callVi C K s_x_131 (c_x_leadsInto (e_l E) (t := t) (j := i - k - 1) (x := wx N i k) hN hT (by omega) (by omega) x2 (fun p => by have := o3 p; omega) (hl _ (by omega)) (by rw [f2 7 (by decide)]; exact hb _ (by omega)) (by rw [f2 8 (by decide)]; exact hc _ (by omega))) rfl rfl rfl rfl rfl rfl d_x_find_30 (fun r σ' hr => ?_)
    obtain ⟨rfl, s1⟩ := hr
    have f3 := f2.tr s1 (by decide)
    have x3 : mk0 (σ' 14) (wx N i k) := by rw [s1 14 (by decide)]; exact x2
    have r3 : ∀ j, j < k → σ' 15 j = nI (wrow N i j) := by rw [s1 15 (by decide)]; exact r2
    have hT3 : RX N σ' := h.fr f3 (by decide)
    refine x_ifB_ne C d_x_find_33 (fun z2 => ?_) (fun z2 => ?_)
    · have et : t = wrow N i k := by
        rcases Nat.lt_or_ge t (wrow N i k) with h1 | h1
        · rw [t3 t h1] at z2; cases z2
        · omega
      subst et
      simp only [ldB, Bool.and_eq_true] at t2
      refine x_aload_n C rfl d_x_find_42 ?_
      refine x_iload_n C rfl d_x_find_43 ?_
      refine x_aload_n C rfl d_x_find_44 ?_
      refine x_geta C K 14 rfl (by decide) d_x_find_45 ?_
      refine x_callVv C K s_x_95 (c_x_step (e_l E) (k2 := 14) (n2 := 5) hN hT3 rfl rfl (by omega) (by omega) x3 (leM_iff.mp t2.1)) rfl rfl rfl rfl rfl rfl d_x_find_48 (fun σ2 hs => ?_)
      obtain ⟨f, rfl, hf⟩ := hs
      refine x_aload_n C rfl d_x_find_51 ?_
      refine x_geta C K 15 rfl (by decide) d_x_find_52 ?_
      refine x_iload_n C rfl d_x_find_55 ?_
      refine x_iload_n C rfl d_x_find_56 ?_
      refine x_i2b C _ (nI_i8 (by omega)) d_x_find_57 ?_
      refine x_bast C K (k := 15) (N := 60) rfl rfl (by omega) (nI_i8 (by omega)) d_x_find_58 ?_
      refine x_iincN (b := 1) C rfl rfl d_x_find_59 ?_
      dsimp only [xst]
      refine x_goto C d_x_find_62 ?_
      refine x_take 3 ?_
      refine ih _ z ⟨(f3.up (by decide) f).up (by decide) _, hf, fun j hj => ?_⟩
      show upd (σ' 15) k (nI (wrow N i k)) j = _
      by_cases e : j = k
      · rw [e, upd_s]
      · rw [upd_n _ _ e]; exact r3 j (by omega)
    · have hlt : t < wrow N i k := by
        rcases Nat.lt_or_ge t (wrow N i k) with h1 | h1
        · exact h1
        · have : t = wrow N i k := by omega
          rw [this, t2] at z2
          cases z2
      refine x_iincN (b := 1) C rfl rfl d_x_find_36 ?_
      dsimp only [xst]
      refine x_goto C d_x_find_39 ?_
      exact ih2 σ' hlt ⟨f3, x3, r3⟩
/-- what rounds leaves: the last round, how it ended, how many least ones, the row -/
def RXr (N : XNet) (i : Nat) (σ : XS) : Prop := σ 9 0 = nI i ∧ σ 10 0 = rres N i ∧ (∀ j, j ≤ i → σ 8 j = nI (rnd N j).length) ∧ (rres N i = nI 1 → ∀ k, k < i → σ 15 k = nI (wrow N i k))
theorem rres_1 {N : XNet} {i : Nat} : rres N i = nI 1 ↔ fin N i = true := by
  unfold rres
  cases fin N i with
  | true => simp
  | false =>
    simp only [Bool.false_eq_true, if_false, iff_false]
    split <;> decide
theorem c_x_rounds (l : Launch) {σ : XS} {N : XNet} (hN : NOK N) (h : RX N σ) : XCi false l y_x_rounds b_x_rounds 4 .int 3 90 (fun q => [.ref (q 0)]) σ (fun r σ' => ∃ i, isEnd N i ∧ r = rres N i ∧ frm [7, 8, 9, 10, 11, 12, 13, 14, 15] σ σ' ∧ RXr N i σ') := by
  refine XCi.of (by decide) rfl (fun _ => rfl) (fun _ => rfl) (fun E q cA hEl C K R => ?_)
  subst hEl
  refine x_iconst C (nI 0) rfl d_x_rounds_0 ?_
  refine x_istore_n C 1 rfl rfl rfl d_x_rounds_1 ?_
  dsimp only [xst]
  have key := x_forS (fun i f => Wx E 2 [.ref (q 0), .int (nI i)] [] (va_up σ 11 f)) (fun i f => ∀ p, p < i → f p = nI (ngo N p)) 5 (fun i f hi hI ih => ?_) 0 (σ 11) (Nat.zero_le _) (fun p hp => absurd hp (by omega))
  · rw [xueq] at key
    exact key
  · refine x_iload_n C rfl d_x_rounds_2 ?_
    refine x_iconst C (nI 5) rfl d_x_rounds_3 ?_
    refine x_icmpN_ge C (by omega) (by omega) d_x_rounds_4 (fun z => ?_) (fun z => ?_)
    · have hl0 : lsAt (va_up (va_up σ 11 f) 12 (fun _ => nI 1) 11) 0 (rnd N 0) := by
        intro k m hm p hp
        have hk : k < 1 := (List.getElem?_eq_some_iff.mp hm).1
        have : k = 0 := by omega
        subst this
        cases hm
        show f (0 + 5 * 0 + p) = _
        rw [show 0 + 5 * 0 + p = p by omega]
        exact hI p (by omega)
      refine x_aload_n C rfl d_x_rounds_26 ?_
      refine x_iconst C (nI 1) rfl d_x_rounds_27 ?_
      refine x_puti C K 12 rfl rfl rfl d_x_rounds_28 ?_
      refine x_aload_n C rfl d_x_rounds_31 ?_
      refine x_iconst C (nI 0) rfl d_x_rounds_32 ?_
      refine x_callVv C K s_x_121 (c_x_keep (e_l E) (N := N) (r := 0) (A := rnd N 0) (B := 20) (by omega) hl0 (okL.rnd hN 0) (by omega) (Nat.le_of_ble_eq_true rfl) rfl) rfl rfl rfl rfl rfl rfl d_x_rounds_33 (fun σ' hs => ?_)
      obtain ⟨s1, s2, s3, s4, s5⟩ := hs
      refine x_iconst C (nI 1) rfl d_x_rounds_36 ?_
      refine x_istore_n C 1 rfl rfl rfl d_x_rounds_37 ?_
      dsimp only [xst]
      refine x_iconst C (nI 1) rfl d_x_rounds_38 ?_
      refine x_istore_n C 2 rfl rfl rfl d_x_rounds_39 ?_
      dsimp only [xst]
      refine x_iconst C (nI 0) rfl d_x_rounds_40 ?_
      refine x_istore_n C 3 rfl rfl rfl d_x_rounds_41 ?_
      dsimp only [xst]
      refine x_aload_n C rfl d_x_rounds_42 ?_
      refine x_iconst C (-1) rfl d_x_rounds_43 ?_
      refine x_puti C K 10 rfl rfl rfl d_x_rounds_44 ?_
      refine x_take 4 ?_
      refine x_forS (fun i τ => Wx E 47 [.ref (q 0), .int (bI (mor N i)), .int (nI 1), .int (nI i)] [] τ) (fun i τ => frm [7, 8, 9, 10, 11, 12, 13, 14, 15] σ τ ∧ lsAt (τ 11) 0 (rnd N i) ∧ τ 12 0 = nI (rnd N i).length ∧ (∀ j, j ≤ i → τ 8 j = nI (rnd N j).length) ∧ (∀ j, j ≤ i → (rnd N j).length ≤ 200 → lsAt (τ 7) (1000 * j) (rnd N j)) ∧ (∀ j, j < i → stop N j = false) ∧ τ 10 0 = -1 ∧ (rnd N i).length ≤ 1400) 60 (fun i τ hi hI ih => ?_) 0 (va_up σ' 10 (fun _ => -1)) (by omega) ⟨?_, ?_, ?_, ?_, ?_, fun j hj => absurd hj (by omega), rfl, Nat.le_of_ble_eq_true rfl⟩
      · obtain ⟨f1, l1, c1, k1, b1, n1, en, ln⟩ := hI
        have hT : RX N τ := h.fr f1 (by decide)
        -- behind the loop
        have out : ∀ τ' : XS, frm [7, 8, 9, 10, 11, 12, 13, 14, 15] σ τ' → frm [9, 10] τ τ' → τ' 9 0 = nI i → τ' 10 0 = rres N i → isEnd N i → Wx E 47 [.ref (q 0), .int (bI (mor N i)), .int (nI 0), .int (nI i)] [] τ' := by
          intro τ' g1 g2 g3 g4 g5
          have hT' : RX N τ' := h.fr g1 (by decide)
          have cnt : ∀ j, j ≤ i → τ' 8 j = nI (rnd N j).length := by rw [g2 8 (by decide)]; exact k1
          refine x_iload_n C rfl d_x_rounds_47 ?_
          refine x_ifB_eq (b := false) C d_x_rounds_48 (fun _ => ?_) (fun h => absurd h (by decide))
          refine x_aload_n C rfl d_x_rounds_149 ?_
          refine x_getv C K 10 rfl rfl g4 d_x_rounds_150 ?_
          refine x_iconst C (nI 1) rfl d_x_rounds_153 ?_
          refine x_icmp_ne C d_x_rounds_154 (fun z2 => ?_) (fun z2 => ?_)
          · refine x_aload_n C rfl d_x_rounds_162 ?_
            refine x_getv C K 10 rfl rfl g4 d_x_rounds_163 ?_
            exact R rfl ⟨i, g5, rfl, g1, g3, g4, cnt, fun h => absurd h z2⟩ d_x_rounds_166
          · have hf := rres_1.mp z2
            have nst : ∀ j, j < i → fin N j = false ∧ (rnd N j).length ≤ 200 := fun j hj => by
              have := nstop (n1 j hj)
              exact ⟨this.1, this.2.1⟩
            refine x_aload_n C rfl d_x_rounds_157 ?_
            refine x_iload_n C rfl d_x_rounds_158 ?_
            refine x_callVv C K s_x_128 (c_x_find (e_l E) (i := i) hN hT' hi hf (fun j hj => (nst j hj).1) (fun j hj => (nst j hj).2) (fun j hj => by rw [g2 7 (by decide)]; exact b1 j (by omega) (nst j hj).2) (fun j hj => cnt j (by omega))) rfl rfl rfl rfl rfl rfl d_x_rounds_159 (fun σ2 hs2 => ?_)
            obtain ⟨u1, u2⟩ := hs2
            have g4' : σ2 10 0 = rres N i := by rw [u1 10 (by decide)]; exact g4
            refine x_aload_n C rfl d_x_rounds_162 ?_
            refine x_getv C K 10 rfl rfl g4' d_x_rounds_163 ?_
            refine R rfl ⟨i, g5, rfl, g1.tr u1 (by decide), ?_, g4', fun j hj => ?_, fun _ => u2⟩ d_x_rounds_166
            · rw [u1 9 (by decide)]; exact g3
            · rw [u1 8 (by decide)]; exact cnt j hj
        refine x_iload_n C rfl d_x_rounds_47 ?_
        refine x_ifB_eq (b := true) C d_x_rounds_48 (fun h => absurd h (by decide)) (fun _ => ?_)
        refine x_aload_n C rfl d_x_rounds_51 ?_
        refine x_iload_n C rfl d_x_rounds_52 ?_
        refine x_puti C K 9 rfl rfl rfl d_x_rounds_53 ?_
        refine x_aload_n C rfl d_x_rounds_56 ?_
        refine x_aload_n C rfl d_x_rounds_57 ?_
        refine x_geta C K 2 rfl (by decide) d_x_rounds_58 ?_
        refine x_aload_n C rfl d_x_rounds_61 ?_
        refine x_geta C K 11 rfl (by decide) d_x_rounds_62 ?_
        refine x_iconst C (nI 0) rfl d_x_rounds_65 ?_
        refine x_aload_n C rfl d_x_rounds_66 ?_
        refine x_getv C K 12 rfl rfl c1 d_x_rounds_67 ?_
        refine x_callVi C K s_x_102 (c_x_isIn4 (e_l E) (k1 := 2) (n1 := 5) (k2 := 11) (n2 := 7010) (fr := 0) (w := nfi N) (A := rnd N i) (B := 20 + 5 * i) hN hT rfl rfl (by omega) rfl rfl (by omega) hT.2.2.1 (fun p _ => by have := hN.2.2.1 p; omega) l1 (okL.rnd hN i) (by omega)) rfl rfl rfl rfl rfl rfl d_x_rounds_70 (fun r σ2 hr => ?_)
        obtain ⟨rfl, rfl⟩ := hr
        have ef : anyLe (rnd N i) (nfi N) = fin N i := rfl
        rw [ef]
        -- from 131 on: the loop ends
        have stopAt : ∀ (τ' : XS), frm [9, 10] τ τ' → τ' 9 0 = nI i → τ' 10 0 = rres N i → stop N i = true → Wx E 131 [.ref (q 0), .int (bI (mor N i)), .int (nI 1), .int (nI i)] [] τ' := by
          intro τ' g2 g3 g4 g5
          refine x_iconst C (nI 0) rfl d_x_rounds_131 ?_
          refine x_istore_n C 2 rfl rfl rfl d_x_rounds_132 ?_
          dsimp only [xst]
          refine x_iload_n C rfl d_x_rounds_133 ?_
          refine x_ifB_eq (b := false) C d_x_rounds_134 (fun _ => ?_) (fun h => absurd h (by decide))
          exact out τ' (f1.tr g2 (by decide)) g2 g3 g4 ⟨g5, n1⟩
        refine x_ifB_eq C d_x_rounds_73 (fun zf => ?_) (fun zf => ?_)
        · refine x_aload_n C rfl d_x_rounds_84 ?_
          refine x_getv C K 12 rfl rfl c1 d_x_rounds_85 ?_
          refine x_sipush C (nI 200) (by decide) d_x_rounds_88 ?_
          -- 103 with ended still none
          have none103 : ¬ ((rnd N i).length ≤ 200 ∧ mor N i = false) → Wx E 103 [.ref (q 0), .int (bI (mor N i)), .int (nI 1), .int (nI i)] [] (va_up τ 9 (fun _ => nI i)) := by
            intro hno
            have er : rres N i = -1 := by rw [rres, zf, if_neg (by decide), if_neg hno]
            refine x_aload_n C rfl d_x_rounds_103 ?_
            refine x_getv C K 10 rfl rfl (show _ = -1 from en) d_x_rounds_104 ?_
            refine x_iconst C (-1) rfl d_x_rounds_107 ?_
            refine x_icmp_ne C d_x_rounds_108 (fun z2 => absurd rfl z2) (fun _ => ?_)
            refine x_aload_n C rfl d_x_rounds_111 ?_
            refine x_getv C K 12 rfl rfl c1 d_x_rounds_112 ?_
            refine x_sipush C (nI 200) (by decide) d_x_rounds_115 ?_
            refine x_icmpN_gt C (by omega) (by omega) d_x_rounds_118 (fun z2 => ?_) (fun z2 => ?_)
            · exact stopAt _ ((frm.rf _ τ).up (by decide) _) rfl (by rw [er]; exact en) (by simp [stop, z2])
            · have hm : mor N i = true := by
                cases hh : mor N i with
                | true => rfl
                | false => exact absurd ⟨z2, hh⟩ hno
              refine x_iload_n C rfl d_x_rounds_121 ?_
              refine x_bipush C (nI 60) (by decide) d_x_rounds_122 ?_
              refine x_icmpN_ge C (by omega) (by omega) d_x_rounds_124 (fun z3 => ?_) (fun z3 => ?_)
              · exact stopAt _ ((frm.rf _ τ).up (by decide) _) rfl (by rw [er]; exact en) (by simp [stop, z3])
              · have hns : stop N i = false := by
                  simp only [stop, zf, hm, Bool.or_eq_false_iff, decide_eq_false_iff_not]
                  exact ⟨⟨⟨trivial, by omega⟩, rfl⟩, by omega⟩
                refine x_iconst C (nI 1) rfl d_x_rounds_127 ?_
                refine x_goto C d_x_rounds_128 ?_
                refine x_istore_n C 2 rfl rfl rfl d_x_rounds_132 ?_
                dsimp only [xst]
                refine x_iload_n C rfl d_x_rounds_133 ?_
                refine x_ifB_eq (b := true) C d_x_rounds_134 (fun h => absurd h (by decide)) (fun _ => ?_)
                refine x_iincN (b := 1) C rfl rfl d_x_rounds_137 ?_
                dsimp only [xst]
                refine x_aload_n C rfl d_x_rounds_140 ?_
                refine x_iload_n C rfl d_x_rounds_141 ?_
                refine x_callVi C K s_x_125 (c_x_go (e_l E) (r := i) (A := rnd N i) (B := 20 + 5 * i) hN hT z3 z2 (k1 i (Nat.le_refl _)) (b1 i (Nat.le_refl _) z2) l1 (okL.rnd hN i) (by omega) c1) rfl rfl rfl rfl rfl rfl d_x_rounds_142 (fun r σ2 hr => ?_)
                obtain ⟨rfl, t1, t2, t3, t4, t5, t6, t7⟩ := hr
                refine x_istore_n C 1 rfl rfl rfl d_x_rounds_145 ?_
                dsimp only [xst]
                refine x_goto C d_x_rounds_146 ?_
                have e1 : (stp N (rnd N i)).1 = rnd N (i + 1) := rfl
                rw [e1] at t2 t3 t4 t6
                refine ih σ2 z3 ⟨(f1.up (by decide) _).tr t1 (by decide), t2, t3, fun j hj => ?_, fun j hj hl => ?_, fun j hj => ?_, ?_, ?_⟩
                · by_cases e : j = i + 1
                  · rw [e]; exact t4
                  · rw [t5 j (by omega)]; exact k1 j (by omega)
                · by_cases e : j = i + 1
                  · rw [e]; rw [e] at hl; exact t6 hl
                  · exact lsAt_congr (b1 j (by omega) hl) (fun x _ hx => t7 x (by omega))
                · by_cases e : j = i
                  · rw [e]; exact hns
                  · exact n1 j (by omega)
                · rw [t1 10 (by decide)]; exact en
                · have := gK_len N (rnd N i) (rnd N i, false) (rnd N i).length
                  have h6 := hN.2.1
                  have m1 : (rnd N i).length * nT N ≤ 200 * 6 := Nat.mul_le_mul z2 h6
                  show (gK N (rnd N i) (rnd N i).length (rnd N i, false)).1.length ≤ 1400
                  have e2 : ((rnd N i, false) : LS2).1.length = (rnd N i).length := rfl
                  omega
          refine x_icmpN_gt C (by omega) (by omega) d_x_rounds_91 (fun z2 => ?_) (fun z2 => ?_)
          · exact none103 (fun hh => by omega)
          · refine x_iload_n C rfl d_x_rounds_94 ?_
            refine x_ifB_ne C d_x_rounds_95 (fun z3 => ?_) (fun z3 => ?_)
            · exact none103 (fun hh => by rw [hh.2] at z3; cases z3)
            · have er : rres N i = nI 0 := by rw [rres, zf, if_neg (by decide), if_pos ⟨z2, z3⟩]
              refine x_aload_n C rfl d_x_rounds_98 ?_
              refine x_iconst C (nI 0) rfl d_x_rounds_99 ?_
              refine x_puti C K 10 rfl rfl rfl d_x_rounds_100 ?_
              refine x_aload_n C rfl d_x_rounds_103 ?_
              refine x_getv C K 10 rfl rfl (show _ = nI 0 from rfl) d_x_rounds_104 ?_
              refine x_iconst C (-1) rfl d_x_rounds_107 ?_
              refine x_icmp_ne C d_x_rounds_108 (fun _ => ?_) (fun z4 => absurd z4 (by decide))
              exact stopAt _ (((frm.rf _ τ).up (by decide) _).up (by decide) _) rfl (by rw [er]; rfl) (by simp [stop, z3])
        · have er : rres N i = nI 1 := rres_1.mpr zf
          refine x_aload_n C rfl d_x_rounds_76 ?_
          refine x_iconst C (nI 1) rfl d_x_rounds_77 ?_
          refine x_puti C K 10 rfl rfl rfl d_x_rounds_78 ?_
          refine x_goto C d_x_rounds_81 ?_
          refine x_aload_n C rfl d_x_rounds_103 ?_
          refine x_getv C K 10 rfl rfl (show _ = nI 1 from rfl) d_x_rounds_104 ?_
          refine x_iconst C (-1) rfl d_x_rounds_107 ?_
          refine x_icmp_ne C d_x_rounds_108 (fun _ => ?_) (fun z4 => absurd z4 (by decide))
          exact stopAt _ (((frm.rf _ τ).up (by decide) _).up (by decide) _) rfl (by rw [er]; rfl) (by simp [stop, zf])
      · exact ((((frm.rf _ σ).up (by decide) f).up (by decide) _).tr s1 (by decide)).up (by decide) _
      · show lsAt (σ' 11) 0 _
        rw [s1 11 (by decide)]; exact hl0
      · show σ' 12 0 = _
        rw [s1 12 (by decide)]; rfl
      · intro j hj
        have : j = 0 := by omega
        subst this
        exact s2
      · intro j hj hl
        have : j = 0 := by omega
        subst this
        exact s4 hl
    · refine x_aload_n C rfl d_x_rounds_7 ?_
      refine x_geta C K 11 rfl (by decide) d_x_rounds_8 ?_
      refine x_iload_n C rfl d_x_rounds_11 ?_
      refine x_aload_n C rfl d_x_rounds_12 ?_
      refine x_geta C K 4 rfl (by decide) d_x_rounds_13 ?_
      refine x_iload_n C rfl d_x_rounds_16 ?_
      refine x_iald C K (k := 4) (N := 5) rfl rfl (by omega) (h.2.2.2.1 i (by omega)) d_x_rounds_17 ?_
      refine x_i2s C _ (nI_i16 (by have := hN.2.2.2.1 i; omega)) d_x_rounds_18 ?_
      refine x_sast C K (k := 11) (N := 7010) rfl rfl (by omega) (nI_i16 (by have := hN.2.2.2.1 i; omega)) d_x_rounds_19 ?_
      refine x_iincN (b := 1) C rfl rfl d_x_rounds_20 ?_
      dsimp only [xst]
      refine x_goto C d_x_rounds_23 ?_
      rw [xuu, xus]
      refine ih _ z (fun p hp => ?_)
      by_cases e : p = i
      · rw [e, upd_s]
      · rw [upd_n _ _ e]; exact hI p (by omega)
end
section
/-! leaves of CoverRoundsModel -/
theorem c_m_isPlace (l : Launch) {σ : XS} {P : Nat} (hP : σ 0 0 = nI P) (v : Int32) : XCi true l y_m_isPlace b_m_isPlace 2 .boolean 0 0 (fun q => [.ref (q 0), .int v]) σ (fun r σ' => r = bI (ltB v P) ∧ σ = σ') := by
  refine XCi.of (by decide) rfl (fun _ => rfl) (fun _ => rfl) (fun E q cA hEl C K R => ?_)
  refine x_iload_n C rfl d_m_isPlace_0 ?_
  refine x_if_lt C d_m_isPlace_1 (fun z => ?_) (fun z => ?_)
  · refine x_iconst C (nI 0) rfl d_m_isPlace_16 ?_
    exact R (bI_nar false) ⟨by simp [ltB, z, bI], rfl⟩ d_m_isPlace_17
  · refine x_iload_n C rfl d_m_isPlace_4 ?_
    refine x_aload_n C rfl d_m_isPlace_5 ?_
    refine x_getv C K 0 rfl rfl hP d_m_isPlace_6 ?_
    refine x_icmp_ge C d_m_isPlace_9 (fun z2 => ?_) (fun z2 => ?_)
    · refine x_iconst C (nI 0) rfl d_m_isPlace_16 ?_
      exact R (bI_nar false) ⟨by simp [ltB, Int32.not_lt.mpr z2, bI], rfl⟩ d_m_isPlace_17
    · refine x_iconst C (nI 1) rfl d_m_isPlace_12 ?_
      refine x_goto C d_m_isPlace_13 ?_
      exact R (bI_nar true) ⟨by simp [ltB, z, Int32.not_le.mp z2, bI], rfl⟩ d_m_isPlace_17
theorem c_m_isTransition (l : Launch) {σ : XS} {P : Nat} (hP : σ 3 0 = nI P) (v : Int32) : XCi true l y_m_isTransition b_m_isTransition 2 .boolean 0 0 (fun q => [.ref (q 0), .int v]) σ (fun r σ' => r = bI (ltB v P) ∧ σ = σ') := by
  refine XCi.of (by decide) rfl (fun _ => rfl) (fun _ => rfl) (fun E q cA hEl C K R => ?_)
  refine x_iload_n C rfl d_m_isTransition_0 ?_
  refine x_if_lt C d_m_isTransition_1 (fun z => ?_) (fun z => ?_)
  · refine x_iconst C (nI 0) rfl d_m_isTransition_16 ?_
    exact R (bI_nar false) ⟨by simp [ltB, z, bI], rfl⟩ d_m_isTransition_17
  · refine x_iload_n C rfl d_m_isTransition_4 ?_
    refine x_aload_n C rfl d_m_isTransition_5 ?_
    refine x_getv C K 3 rfl rfl hP d_m_isTransition_6 ?_
    refine x_icmp_ge C d_m_isTransition_9 (fun z2 => ?_) (fun z2 => ?_)
    · refine x_iconst C (nI 0) rfl d_m_isTransition_16 ?_
      exact R (bI_nar false) ⟨by simp [ltB, Int32.not_lt.mpr z2, bI], rfl⟩ d_m_isTransition_17
    · refine x_iconst C (nI 1) rfl d_m_isTransition_12 ?_
      refine x_goto C d_m_isTransition_13 ?_
      exact R (bI_nar true) ⟨by simp [ltB, z, Int32.not_le.mp z2, bI], rfl⟩ d_m_isTransition_17
theorem c_m_isIn2 (l : Launch) {σ : XS} (v : Int32) (h : Nat) : XCi true l y_m_isIn2 b_m_isIn2 2 .boolean 0 0 (fun q => [.int v, .int (nI h)]) σ (fun r σ' => r = bI (inB v h) ∧ σ = σ') := by
  refine XCi.of (by decide) rfl (fun _ => rfl) (fun _ => rfl) (fun E q cA hEl C K R => ?_)
  refine x_iload_n C rfl d_m_isIn2_0 ?_
  refine x_if_lt C d_m_isIn2_1 (fun z => ?_) (fun z => ?_)
  · refine x_iconst C (nI 0) rfl d_m_isIn2_13 ?_
    exact R (bI_nar false) ⟨by simp [inB, z, bI], rfl⟩ d_m_isIn2_14
  · refine x_iload_n C rfl d_m_isIn2_4 ?_
    refine x_iload_n C rfl d_m_isIn2_5 ?_
    refine x_icmp_gt C d_m_isIn2_6 (fun z2 => ?_) (fun z2 => ?_)
    · refine x_iconst C (nI 0) rfl d_m_isIn2_13 ?_
      exact R (bI_nar false) ⟨by simp [inB, Int32.not_le.mpr z2, bI], rfl⟩ d_m_isIn2_14
    · refine x_iconst C (nI 1) rfl d_m_isIn2_9 ?_
      refine x_goto C d_m_isIn2_10 ?_
      exact R (bI_nar true) ⟨by simp [inB, z, Int32.not_lt.mp z2, bI], rfl⟩ d_m_isIn2_14
theorem c_m_begin (l : Launch) {σ : XS} : XCv true l y_m_begin b_m_begin 2 0 0 (fun q => [.ref (q 0)]) σ (fun σ' => ∃ f, σ' = va_up σ 6 f ∧ ∀ p, p < 5 → f p = σ 1 p) := by
  refine XCv.of (by decide) rfl (fun _ => rfl) (fun _ => rfl) (fun E q cA hEl C K R => ?_)
  refine x_iconst C (nI 0) rfl d_m_begin_0 ?_
  refine x_istore_n C 1 rfl rfl rfl d_m_begin_1 ?_
  dsimp only [xst]
  have key := x_forS (fun i f => Wx E 2 [.ref (q 0), .int (nI i)] [] (va_up σ 6 f)) (fun i f => ∀ p, p < i → f p = σ 1 p) 5 (fun i f hi hI ih => ?_) 0 (σ 6) (Nat.zero_le _) (fun p hp => absurd hp (by omega))
  · rw [xueq] at key
    exact key
  · refine x_iload_n C rfl d_m_begin_2 ?_
    refine x_iconst C (nI 5) rfl d_m_begin_3 ?_
    refine x_icmpN_ge C (by omega) (by omega) d_m_begin_4 (fun z => ?_) (fun z => ?_)
    · exact R ⟨f, rfl, fun p hp => hI p (by omega)⟩ d_m_begin_25
    · refine x_aload_n C rfl d_m_begin_7 ?_
      refine x_geta C K 6 rfl (by decide) d_m_begin_8 ?_
      refine x_iload_n C rfl d_m_begin_11 ?_
      refine x_aload_n C rfl d_m_begin_12 ?_
      refine x_geta C K 1 rfl (by decide) d_m_begin_13 ?_
      refine x_iload_n C rfl d_m_begin_16 ?_
      refine x_iald C K (k := 1) (N := 5) rfl rfl (by omega) rfl d_m_begin_17 ?_
      refine x_iast C K (k := 6) (N := 5) rfl rfl (by omega) d_m_begin_18 ?_
      refine x_iincN (b := 1) C rfl rfl d_m_begin_19 ?_
      dsimp only [xst]
      refine x_goto C d_m_begin_22 ?_
      rw [xuu, xus]
      refine ih _ z (fun p hp => ?_)
      by_cases e : p = i
      · rw [e, upd_s]; rfl
      · rw [upd_n _ _ e]; exact hI p (by omega)
theorem m_begin_now {σ : XS} {N : XNet} (h : RM N σ) {f : Nat → Int32} (hf : ∀ p, p < 5 → f p = σ 1 p) : RM N (va_up σ 6 f) ∧ mk0 (va_up σ 6 f 6) (nfi N) ∧ ∀ k, 7 ≤ k → va_up σ 6 f k = σ k := by
  refine ⟨h, fun p hp => ?_, fun k hk => xun σ (by omega) _⟩
  rw [xus, hf p hp]
  exact h.2.2.1 p hp
theorem c_m_place (l : Launch) {σ : XS} {N : XNet} {w : Nat → Nat} (hN : NOK N) (h : RM N σ) (hw : mk0 (σ 6) w) (v : Int32) : XCi true l y_m_place b_m_place 2 .int 1 40 (fun q => [.ref (q 0), .int v]) σ (fun r σ' => r = plR N v ∧ RM (plN N v) σ' ∧ mk0 (σ' 6) (if plO N v then nfi (plN N v) else w) ∧ ∀ k, 7 ≤ k → σ' k = σ k) := by
  refine XCi.of (by decide) rfl (fun _ => rfl) (fun _ => rfl) (fun E q cA hEl C K R => ?_)
  subst hEl
  have h5 := hN.1
  have fail : plO N v = false → Wx E 17 [.ref (q 0), .int v] [] σ := by
    intro ho
    refine x_iconst C (-1) rfl d_m_place_17 ?_
    refine R rfl ⟨by simp [plR, ho], ?_, ?_, fun _ _ => rfl⟩ d_m_place_18
    · simpa [plN, ho] using h
    · simpa [ho] using hw
  refine x_aload_n C rfl d_m_place_0 ?_
  refine x_getv C K 0 rfl rfl h.1 d_m_place_1 ?_
  refine x_iconst C (nI 5) rfl d_m_place_4 ?_
  refine x_icmpN_eq C (by omega) (by omega) d_m_place_5 (fun z => ?_) (fun z => ?_)
  · exact fail (by simp [plO, z])
  · refine x_iload_n C rfl d_m_place_8 ?_
    refine x_bipush C (nI 20) (by decide) d_m_place_9 ?_
    refine x_callSi C K s_m_66 (c_m_isIn2 (e_l E) v 20) rfl rfl rfl rfl rfl rfl d_m_place_11 (fun r σ' hr => ?_)
    obtain ⟨rfl, rfl⟩ := hr
    refine x_ifB_ne C d_m_place_14 (fun hi => ?_) (fun hi => ?_)
    · have ho : plO N v = true := by simp [plO, z, hi]
      obtain ⟨j, hj, rfl⟩ := (inB_iff (by omega)).mp hi
      refine x_aload_n C rfl d_m_place_19 ?_
      refine x_geta C K 1 rfl (by decide) d_m_place_20 ?_
      refine x_aload_n C rfl d_m_place_23 ?_
      refine x_getv C K 0 rfl rfl h.1 d_m_place_24 ?_
      refine x_iload_n C rfl d_m_place_27 ?_
      refine x_iast C K (k := 1) (N := 5) rfl rfl (by omega) d_m_place_28 ?_
      refine x_aload_n C rfl d_m_place_29 ?_
      refine x_dup C rfl d_m_place_30 ?_
      refine x_getv C K 0 rfl rfl h.1 d_m_place_31 ?_
      refine x_iconst C (nI 1) rfl d_m_place_34 ?_
      refine x_iaddN C d_m_place_35 ?_
      refine x_puti C K 0 rfl rfl rfl d_m_place_36 ?_
      refine x_aload_n C rfl d_m_place_39 ?_
      refine x_callVv C K s_m_70 (c_m_begin (e_l E)) rfl rfl rfl rfl rfl rfl d_m_place_40 (fun σ' hs => ?_)
      obtain ⟨f, rfl, hf⟩ := hs
      have key : RM (plN N (nI j)) (va_up (va_up σ 1 (upd (σ 1) (nP N) (nI j))) 0 (fun _ => nI (nP N + 1))) := by
        obtain ⟨a0, a1, a2, a3, a4, a5⟩ := h
        simp only [plN, ho, if_true]
        refine ⟨rfl, a1, fun p hp => ?_, a3, a4, a5⟩
        show upd (σ 1) (nP N) (nI j) p = nI (if p = nP N then (nI j).toNatClampNeg else nfi N p)
        by_cases e : p = nP N
        · rw [if_pos e, e, upd_s, nI_clamp (by omega)]
        · rw [if_neg e, upd_n _ _ e]
          exact a2 p hp
      obtain ⟨k1, k2, k3⟩ := m_begin_now key hf
      refine x_aload_n C rfl d_m_place_43 ?_
      refine x_getv C K 0 rfl rfl (show _ = nI (nP N + 1) from rfl) d_m_place_44 ?_
      refine x_iconst C (nI 1) rfl d_m_place_47 ?_
      refine x_isubN C (by omega) d_m_place_48 ?_
      refine R rfl ⟨by simp [plR, ho], k1, ?_, fun k hk => ?_⟩ d_m_place_49
      · rw [if_pos ho]; exact k2
      · exact (k3 k hk).trans ((xun _ (by omega) _).trans (xun _ (by omega) _))
    · exact fail (by simp [plO, hi])
theorem c_m_transition (l : Launch) {σ : XS} {N : XNet} {w : Nat → Nat} (hN : NOK N) (h : RM N σ) (hw : mk0 (σ 6) w) : XCi true l y_m_transition b_m_transition 1 .int 1 40 (fun q => [.ref (q 0)]) σ (fun r σ' => r = trR N ∧ RM (trN N) σ' ∧ mk0 (σ' 6) (if trO N then nfi N else w) ∧ ∀ k, 7 ≤ k → σ' k = σ k) := by
  refine XCi.of (by decide) rfl (fun _ => rfl) (fun _ => rfl) (fun E q cA hEl C K R => ?_)
  subst hEl
  have h6 := hN.2.1
  refine x_aload_n C rfl d_m_transition_0 ?_
  refine x_getv C K 3 rfl rfl h.2.1 d_m_transition_1 ?_
  refine x_bipush C (nI 6) (by decide) d_m_transition_4 ?_
  refine x_icmpN_ne C (by omega) (by omega) d_m_transition_6 (fun z => ?_) (fun z => ?_)
  · have ho : trO N = true := by simp [trO, z]
    refine x_aload_n C rfl d_m_transition_11 ?_
    refine x_dup C rfl d_m_transition_12 ?_
    refine x_getv C K 3 rfl rfl h.2.1 d_m_transition_13 ?_
    refine x_iconst C (nI 1) rfl d_m_transition_16 ?_
    refine x_iaddN C d_m_transition_17 ?_
    refine x_puti C K 3 rfl rfl rfl d_m_transition_18 ?_
    refine x_aload_n C rfl d_m_transition_21 ?_
    refine x_callVv C K s_m_70 (c_m_begin (e_l E)) rfl rfl rfl rfl rfl rfl d_m_transition_22 (fun σ' hs => ?_)
    obtain ⟨f, rfl, hf⟩ := hs
    have key : RM (trN N) (va_up σ 3 (fun _ => nI (nT N + 1))) := by
      obtain ⟨a0, a1, a2, a3, a4, a5⟩ := h
      simp only [trN, ho, if_true]
      exact ⟨a0, rfl, a2, a3, a4, a5⟩
    obtain ⟨k1, k2, k3⟩ := m_begin_now key hf
    refine x_aload_n C rfl d_m_transition_25 ?_
    refine x_getv C K 3 rfl rfl (show _ = nI (nT N + 1) from rfl) d_m_transition_26 ?_
    refine x_iconst C (nI 1) rfl d_m_transition_29 ?_
    refine x_isubN C (by omega) d_m_transition_30 ?_
    refine R rfl ⟨by simp [trR, ho], k1, ?_, fun k hk => ?_⟩ d_m_transition_31
    · rw [if_pos ho]
      have e : nfi (trN N) = nfi N := by simp [trN, ho]
      rw [e] at k2
      exact k2
    · exact (k3 k hk).trans (xun _ (by omega) _)
  · have ho : trO N = false := by simp [trO, z]
    refine x_iconst C (-1) rfl d_m_transition_9 ?_
    refine R rfl ⟨by simp [trR, ho], ?_, ?_, fun _ _ => rfl⟩ d_m_transition_10
    · simpa [trN, ho] using h
    · simpa [ho] using hw
theorem c_m_target (l : Launch) {σ : XS} {N : XNet} (hN : NOK N) (h : RM N σ) (a b : Int32) : XCi true l y_m_target b_m_target 3 .boolean 1 21 (fun q => [.ref (q 0), .int a, .int b]) σ (fun r σ' => r = bI (tgO N a b) ∧ RM (tgN N a b) σ' ∧ σ' 6 = σ 6 ∧ ∀ k, 7 ≤ k → σ' k = σ k) := by
  refine XCi.of (by decide) rfl (fun _ => rfl) (fun _ => rfl) (fun E q cA hEl C K R => ?_)
  subst hEl
  have h5 := hN.1
  have fail : tgO N a b = false → Wx E 17 [.ref (q 0), .int a, .int b] [] σ := by
    intro ho
    refine x_iconst C (nI 0) rfl d_m_target_17 ?_
    refine R (bI_nar false) ⟨by rw [ho]; rfl, ?_, rfl, fun _ _ => rfl⟩ d_m_target_18
    simpa [tgN, ho] using h
  refine x_aload_n C rfl d_m_target_0 ?_
  refine x_iload_n C rfl d_m_target_1 ?_
  refine x_callVi C K s_m_77 (c_m_isPlace (e_l E) h.1 a) rfl rfl rfl rfl rfl rfl d_m_target_2 (fun r σ' hr => ?_)
  obtain ⟨rfl, rfl⟩ := hr
  refine x_ifB_eq C d_m_target_5 (fun h1 => ?_) (fun h1 => ?_)
  · exact fail (by simp [tgO, h1])
  · refine x_iload_n C rfl d_m_target_8 ?_
    refine x_bipush C (nI 20) (by decide) d_m_target_9 ?_
    refine x_callSi C K s_m_66 (c_m_isIn2 (e_l E) b 20) rfl rfl rfl rfl rfl rfl d_m_target_11 (fun r σ' hr => ?_)
    obtain ⟨rfl, rfl⟩ := hr
    refine x_ifB_ne C d_m_target_14 (fun h2 => ?_) (fun h2 => ?_)
    · have ho : tgO N a b = true := by simp [tgO, h1, h2]
      obtain ⟨p, hp, rfl⟩ := (ltB_iff (by omega)).mp h1
      obtain ⟨x, hx, rfl⟩ := (inB_iff (by omega)).mp h2
      refine x_aload_n C rfl d_m_target_19 ?_
      refine x_geta C K 2 rfl (by decide) d_m_target_20 ?_
      refine x_iload_n C rfl d_m_target_23 ?_
      refine x_iload_n C rfl d_m_target_24 ?_
      refine x_iast C K (k := 2) (N := 5) rfl rfl (by omega) d_m_target_25 ?_
      refine x_iconst C (nI 1) rfl d_m_target_26 ?_
      refine R (bI_nar true) ⟨by rw [ho]; rfl, ?_, rfl, fun k hk => xun σ (by omega) _⟩ d_m_target_27
      obtain ⟨a0, a1, a2, a3, a4, a5⟩ := h
      simp only [tgN, ho, if_true]
      refine ⟨a0, a1, a2, fun j hj => ?_, a4, a5⟩
      show upd (σ 2) p (nI x) j = nI (if j = (nI p).toNatClampNeg then (nI x).toNatClampNeg else ngo N j)
      rw [nI_clamp (n := p) (by omega), nI_clamp (n := x) (by omega)]
      by_cases e : j = p
      · rw [if_pos e, e, upd_s]
      · rw [if_neg e, upd_n _ _ e]
        exact a3 j hj
    · exact fail (by simp [tgO, h2])
theorem c_m_arc (l : Launch) {σ : XS} {N : XNet} {w : Nat → Nat} (hN : NOK N) (h : RM N σ) (hw : mk0 (σ 6) w) (a b c d : Int32) : XCi true l y_m_arc b_m_arc 5 .boolean 1 40 (fun q => [.ref (q 0), .int a, .int b, .int c, .int d]) σ (fun r σ' => r = bI (arO N a b c d) ∧ RM (arN N a b c d) σ' ∧ mk0 (σ' 6) (if arO N a b c d then nfi N else w) ∧ ∀ k, 7 ≤ k → σ' k = σ k) := by
  refine XCi.of (by decide) rfl (fun _ => rfl) (fun _ => rfl) (fun E q cA hEl C K R => ?_)
  subst hEl
  have h5 := hN.1
  have h6 := hN.2.1
  have fail : arO N a b c d = false → Wx E 33 [.ref (q 0), .int a, .int b, .int c, .int d] [] σ := by
    intro ho
    refine x_iconst C (nI 0) rfl d_m_arc_33 ?_
    refine R (bI_nar false) ⟨by rw [ho]; rfl, ?_, ?_, fun _ _ => rfl⟩ d_m_arc_34
    · simpa [arN, ho] using h
    · simpa [ho] using hw
  refine x_aload_n C rfl d_m_arc_0 ?_
  refine x_iload_n C rfl d_m_arc_1 ?_
  refine x_callVi C K s_m_73 (c_m_isTransition (e_l E) h.2.1 a) rfl rfl rfl rfl rfl rfl d_m_arc_2 (fun r σ' hr => ?_)
  obtain ⟨rfl, rfl⟩ := hr
  refine x_ifB_eq C d_m_arc_5 (fun h1 => fail (by simp [arO, h1])) (fun h1 => ?_)
  refine x_aload_n C rfl d_m_arc_8 ?_
  refine x_iload_n C rfl d_m_arc_9 ?_
  refine x_callVi C K s_m_77 (c_m_isPlace (e_l E) h.1 b) rfl rfl rfl rfl rfl rfl d_m_arc_10 (fun r σ' hr => ?_)
  obtain ⟨rfl, rfl⟩ := hr
  refine x_ifB_eq C d_m_arc_13 (fun h2 => fail (by simp [arO, h2])) (fun h2 => ?_)
  refine x_iload_n C rfl d_m_arc_16 ?_
  refine x_iconst C (nI 5) rfl d_m_arc_17 ?_
  refine x_callSi C K s_m_66 (c_m_isIn2 (e_l E) c 5) rfl rfl rfl rfl rfl rfl d_m_arc_18 (fun r σ' hr => ?_)
  obtain ⟨rfl, rfl⟩ := hr
  refine x_ifB_eq C d_m_arc_21 (fun h3 => fail (by simp [arO, h3])) (fun h3 => ?_)
  refine x_iload C rfl d_m_arc_24 ?_
  refine x_iconst C (nI 5) rfl d_m_arc_26 ?_
  refine x_callSi C K s_m_66 (c_m_isIn2 (e_l E) d 5) rfl rfl rfl rfl rfl rfl d_m_arc_27 (fun r σ' hr => ?_)
  obtain ⟨rfl, rfl⟩ := hr
  refine x_ifB_ne C d_m_arc_30 (fun h4 => ?_) (fun h4 => fail (by simp [arO, h4]))
  have ho : arO N a b c d = true := by simp [arO, h1, h2, h3, h4]
  obtain ⟨t, ht, rfl⟩ := (ltB_iff (by omega)).mp h1
  obtain ⟨p, hp, rfl⟩ := (ltB_iff (by omega)).mp h2
  obtain ⟨x, hx, rfl⟩ := (inB_iff (by omega)).mp h3
  obtain ⟨y, hy, rfl⟩ := (inB_iff (by omega)).mp h4
  refine x_aload_n C rfl d_m_arc_35 ?_
  refine x_geta C K 4 rfl (by decide) d_m_arc_36 ?_
  refine x_iconst C (nI 5) rfl d_m_arc_39 ?_
  refine x_iload_n C rfl d_m_arc_40 ?_
  refine x_imulN C d_m_arc_41 ?_
  refine x_iload_n C rfl d_m_arc_42 ?_
  refine x_iaddN C d_m_arc_43 ?_
  refine x_iload_n C rfl d_m_arc_44 ?_
  refine x_iast C K (k := 4) (N := 30) rfl rfl (by omega) d_m_arc_45 ?_
  refine x_aload_n C rfl d_m_arc_46 ?_
  refine x_geta C K 5 rfl (by decide) d_m_arc_47 ?_
  refine x_iconst C (nI 5) rfl d_m_arc_50 ?_
  refine x_iload_n C rfl d_m_arc_51 ?_
  refine x_imulN C d_m_arc_52 ?_
  refine x_iload_n C rfl d_m_arc_53 ?_
  refine x_iaddN C d_m_arc_54 ?_
  refine x_iload C rfl d_m_arc_55 ?_
  refine x_iast C K (k := 5) (N := 30) rfl rfl (by omega) d_m_arc_57 ?_
  refine x_aload_n C rfl d_m_arc_58 ?_
  refine x_callVv C K s_m_70 (c_m_begin (e_l E)) rfl rfl rfl rfl rfl rfl d_m_arc_59 (fun σ' hs => ?_)
  obtain ⟨f, rfl, hf⟩ := hs
  have key : RM (arN N (nI t) (nI p) (nI x) (nI y)) (va_up (va_up σ 4 (upd (σ 4) (5 * t + p) (nI x))) 5 (upd (σ 5) (5 * t + p) (nI y))) := by
    obtain ⟨a0, a1, a2, a3, a4, a5⟩ := h
    simp only [arN, ho, if_true, nI_clamp (n := t) (by omega), nI_clamp (n := p) (by omega), nI_clamp (n := x) (by omega), nI_clamp (n := y) (by omega)]
    exact ⟨a0, a1, a2, a3, up2_at a4 (by omega), up2_at a5 (by omega)⟩
  obtain ⟨k1, k2, k3⟩ := m_begin_now key hf
  refine x_iconst C (nI 1) rfl d_m_arc_62 ?_
  refine R (bI_nar true) ⟨by rw [ho]; rfl, k1, ?_, fun k hk => ?_⟩ d_m_arc_63
  · rw [if_pos ho]
    have e : nfi (arN N (nI t) (nI p) (nI x) (nI y)) = nfi N := by simp [arN, ho]
    rw [e] at k2
    exact k2
  · exact (k3 k hk).trans ((xun _ (by omega) _).trans (xun _ (by omega) _))
theorem c_m_tokens (l : Launch) {σ : XS} {N : XNet} {w : Nat → Nat} (hN : NOK N) (h : RM N σ) (hw : mk0 (σ 6) w) (v : Int32) : XCi true l y_m_tokens b_m_tokens 2 .int 1 21 (fun q => [.ref (q 0), .int v]) σ (fun r σ' => r = tkR N w v ∧ σ = σ') := by
  refine XCi.of (by decide) rfl (fun _ => rfl) (fun _ => rfl) (fun E q cA hEl C K R => ?_)
  subst hEl
  have h5 := hN.1
  refine x_aload_n C rfl d_m_tokens_0 ?_
  refine x_iload_n C rfl d_m_tokens_1 ?_
  refine x_callVi C K s_m_77 (c_m_isPlace (e_l E) h.1 v) rfl rfl rfl rfl rfl rfl d_m_tokens_2 (fun r σ' hr => ?_)
  obtain ⟨rfl, rfl⟩ := hr
  refine x_ifB_eq C d_m_tokens_5 (fun h1 => ?_) (fun h1 => ?_)
  · refine x_iconst C (-1) rfl d_m_tokens_17 ?_
    exact R rfl ⟨by simp [tkR, h1], rfl⟩ d_m_tokens_18
  · obtain ⟨p, hp, rfl⟩ := (ltB_iff (by omega)).mp h1
    refine x_aload_n C rfl d_m_tokens_8 ?_
    refine x_geta C K 6 rfl (by decide) d_m_tokens_9 ?_
    refine x_iload_n C rfl d_m_tokens_12 ?_
    refine x_iald C K (k := 6) (N := 5) rfl rfl (by omega) (hw p (by omega)) d_m_tokens_13 ?_
    refine x_goto C d_m_tokens_14 ?_
    exact R rfl ⟨by rw [tkR, h1, nI_clamp (by omega)]; rfl, rfl⟩ d_m_tokens_18
/-- tops: what is at a of one row covers what is at b of another -/
theorem c_m_tops (l : Launch) {σ : XS} {k0 n0 k2 n2 a b : Nat} {u v : Nat → Nat} (hk0 : xk true k0 = 1) (hn0 : xlen true k0 = n0) (hk2 : xk true k2 = 1) (hn2 : xlen true k2 = n2) (ha : a + 5 ≤ n0) (hb : b + 5 ≤ n2) (hu : mkAt (σ k0) a u) (hv : mkAt (σ k2) b v) (bu : ∀ p, p < 5 → u p < 2 ^ 31) (bv : ∀ p, p < 5 → v p < 2 ^ 31) : XCi true l y_m_tops b_m_tops 6 .boolean 0 0 (fun q => [.ref (q k0), .int (nI a), .ref (q k2), .int (nI b)]) σ (fun r σ' => r = bI (leM v u) ∧ σ = σ') := by
  refine XCi.of (by decide) rfl (fun _ => rfl) (fun _ => rfl) (fun E q cA hEl C K R => ?_)
  have la := xlen_lt true k0
  have lb := xlen_lt true k2
  refine x_iconst C (nI 1) rfl d_m_tops_0 ?_
  refine x_istore C rfl rfl d_m_tops_1 ?_
  dsimp only [xst]
  refine x_iconst C (nI 0) rfl d_m_tops_3 ?_
  refine x_istore C rfl rfl d_m_tops_4 ?_
  dsimp only [xst]
  refine x_for (fun i => Wx E 6 [.ref (q k0), .int (nI a), .ref (q k2), .int (nI b), .int (bI (xall i (fun p => decide (v p ≤ u p)))), .int (nI i)] [] σ) 5 (fun i hi ih => ?_) 0 (Nat.zero_le _)
  refine x_iload C rfl d_m_tops_6 ?_
  refine x_iconst C (nI 5) rfl d_m_tops_8 ?_
  refine x_icmpN_ge C (by omega) (by omega) d_m_tops_9 (fun z => ?_) (fun z => ?_)
  · refine x_iload C rfl d_m_tops_45 ?_
    have e : i = 5 := by omega
    subst e
    exact R (bI_nar _) ⟨rfl, rfl⟩ d_m_tops_47
  · have cont : Wx E 37 [.ref (q k0), .int (nI a), .ref (q k2), .int (nI b), .int (bI (xall i (fun p => decide (v p ≤ u p)))), .int (nI i)] [.int (bI (xall i (fun p => decide (v p ≤ u p)) && decide (v i ≤ u i)))] σ := by
      refine x_istore C rfl rfl d_m_tops_37 ?_
      dsimp only [xst]
      refine x_iincN (b := 1) C rfl rfl d_m_tops_39 ?_
      dsimp only [xst]
      refine x_goto C d_m_tops_42 ?_
      exact ih z
    refine x_iload C rfl d_m_tops_12 ?_
    refine x_ifB_eq C d_m_tops_14 (fun h1 => ?_) (fun h1 => ?_)
    · rw [show bI (xall i (fun p => decide (v p ≤ u p)) && decide (v i ≤ u i)) = nI 0 by rw [h1]; rfl] at cont
      refine x_iconst C (nI 0) rfl d_m_tops_36 ?_
      exact cont
    · have b1 := bu i z
      have b2 := bv i z
      refine x_aload_n C rfl d_m_tops_17 ?_
      refine x_iload_n C rfl d_m_tops_18 ?_
      refine x_iload C rfl d_m_tops_19 ?_
      refine x_iaddN C d_m_tops_21 ?_
      refine x_iald C K hk0 hn0 (by omega) (hu i z) d_m_tops_22 ?_
      refine x_aload_n C rfl d_m_tops_23 ?_
      refine x_iload_n C rfl d_m_tops_24 ?_
      refine x_iload C rfl d_m_tops_25 ?_
      refine x_iaddN C d_m_tops_27 ?_
      refine x_iald C K hk2 hn2 (by omega) (hv i z) d_m_tops_28 ?_
      refine x_icmpN_lt C b1 b2 d_m_tops_29 (fun h2 => ?_) (fun h2 => ?_)
      · rw [show bI (xall i (fun p => decide (v p ≤ u p)) && decide (v i ≤ u i)) = nI 0 by rw [decide_eq_false (by omega), Bool.and_false]; rfl] at cont
        refine x_iconst C (nI 0) rfl d_m_tops_36 ?_
        exact cont
      · rw [show bI (xall i (fun p => decide (v p ≤ u p)) && decide (v i ≤ u i)) = nI 1 by rw [h1, decide_eq_true h2]; rfl] at cont
        refine x_iconst C (nI 1) rfl d_m_tops_32 ?_
        refine x_goto C d_m_tops_33 ?_
        exact cont
theorem c_m_canFire (l : Launch) {σ : XS} {N : XNet} {k1 n1 fr : Nat} {mk : Nat → Nat} (hN : NOK N) (h : RM N σ) (hk1 : xk true k1 = 1) (hn1 : xlen true k1 = n1) (hfr : fr + 5 ≤ n1) (hmk : mkAt (σ k1) fr mk) (hmb : ∀ p, p < 5 → mk p < 2 ^ 31) (v : Int32) : XCi true l y_m_canFire b_m_canFire 4 .boolean 1 25 (fun q => [.ref (q 0), .ref (q k1), .int (nI fr), .int v]) σ (fun r σ' => r = bI (ltB v (nT N) && leM (ntk N v.toNatClampNeg) mk) ∧ σ = σ') := by
  refine XCi.of (by decide) rfl (fun _ => rfl) (fun _ => rfl) (fun E q cA hEl C K R => ?_)
  subst hEl
  have h6 := hN.2.1
  refine x_aload_n C rfl d_m_canFire_0 ?_
  refine x_iload_n C rfl d_m_canFire_1 ?_
  refine x_callVi C K s_m_73 (c_m_isTransition (e_l E) h.2.1 v) rfl rfl rfl rfl rfl rfl d_m_canFire_2 (fun r σ' hr => ?_)
  obtain ⟨rfl, rfl⟩ := hr
  refine x_ifB_eq C d_m_canFire_5 (fun h1 => ?_) (fun h1 => ?_)
  · refine x_iconst C (nI 0) rfl d_m_canFire_27 ?_
    exact R (bI_nar false) ⟨by rw [h1]; rfl, rfl⟩ d_m_canFire_28
  · obtain ⟨t, ht, rfl⟩ := (ltB_iff (by omega)).mp h1
    have et : (nI t).toNatClampNeg = t := nI_clamp (by omega)
    refine x_aload_n C rfl d_m_canFire_8 ?_
    refine x_iload_n C rfl d_m_canFire_9 ?_
    refine x_aload_n C rfl d_m_canFire_10 ?_
    refine x_geta C K 4 rfl (by decide) d_m_canFire_11 ?_
    refine x_iconst C (nI 5) rfl d_m_canFire_14 ?_
    refine x_iload_n C rfl d_m_canFire_15 ?_
    refine x_imulN C d_m_canFire_16 ?_
    refine x_callSi C K s_m_83 (c_m_tops (e_l E) (k0 := k1) (k2 := 4) (a := fr) (b := 5 * t) (u := mk) (v := ntk N t) hk1 hn1 rfl (n2 := 30) rfl hfr (by omega) hmk (fun p hp => h.2.2.2.2.1 t p (by omega) hp) hmb (fun p hp => by have := hN.2.2.2.2.1 t p; omega)) rfl rfl rfl rfl rfl rfl d_m_canFire_17 (fun r σ' hr => ?_)
    obtain ⟨rfl, rfl⟩ := hr
    refine x_ifB_eq C d_m_canFire_20 (fun h2 => ?_) (fun h2 => ?_)
    · refine x_iconst C (nI 0) rfl d_m_canFire_27 ?_
      exact R (bI_nar false) ⟨by rw [h1, et, h2]; rfl, rfl⟩ d_m_canFire_28
    · refine x_iconst C (nI 1) rfl d_m_canFire_23 ?_
      refine x_goto C d_m_canFire_24 ?_
      exact R (bI_nar true) ⟨by rw [h1, et, h2]; rfl, rfl⟩ d_m_canFire_28
theorem c_m_fire (l : Launch) {σ : XS} {N : XNet} {w : Nat → Nat} (hN : NOK N) (h : RM N σ) (hw : mk0 (σ 6) w) (hb : ∀ p, p < 5 → w p < 2 ^ 31) (v : Int32) : XCi true l y_m_fire b_m_fire 3 .boolean 2 60 (fun q => [.ref (q 0), .int v]) σ (fun r σ' => r = bI (fiO N w v) ∧ RM N σ' ∧ mk0 (σ' 6) (fiW N w v) ∧ ∀ k, 7 ≤ k → σ' k = σ k) := by
  refine XCi.of (by decide) rfl (fun _ => rfl) (fun _ => rfl) (fun E q cA hEl C K R => ?_)
  subst hEl
  have h6 := hN.2.1
  refine x_aload_n C rfl d_m_fire_0 ?_
  refine x_aload_n C rfl d_m_fire_1 ?_
  refine x_geta C K 6 rfl (by decide) d_m_fire_2 ?_
  refine x_iconst C (nI 0) rfl d_m_fire_5 ?_
  refine x_iload_n C rfl d_m_fire_6 ?_
  refine x_callVi C K s_m_116 (c_m_canFire (e_l E) (k1 := 6) (n1 := 5) (fr := 0) hN h rfl rfl (by omega) (fun p hp => by rw [Nat.zero_add]; exact hw p hp) hb v) rfl rfl rfl rfl rfl rfl d_m_fire_7 (fun r σ' hr => ?_)
  obtain ⟨rfl, rfl⟩ := hr
  have e0 : (ltB v (nT N) && leM (ntk N v.toNatClampNeg) w) = fiO N w v := rfl
  rw [e0]
  refine x_ifB_ne C d_m_fire_10 (fun ho => ?_) (fun ho => ?_)
  · have ho' := ho
    simp only [fiO, Bool.and_eq_true] at ho'
    obtain ⟨t, ht, rfl⟩ := (ltB_iff (by omega)).mp ho'.1
    have et : (nI t).toNatClampNeg = t := nI_clamp (by omega)
    have hle := ho'.2
    rw [et] at hle
    have hle := leM_iff.mp hle
    have eW : fiW N w (nI t) = stM N t w := by simp [fiW, ho, et]
    refine x_iconst C (nI 0) rfl d_m_fire_15 ?_
    refine x_istore_n C 2 rfl rfl rfl d_m_fire_16 ?_
    dsimp only [xst]
    have key := x_forS (fun i f => Wx E 17 [.ref (q 0), .int (nI t), .int (nI i)] [] (va_up σ 6 f)) (fun i f => (∀ p, p < i → f p = nI (stM N t w p)) ∧ ∀ p, i ≤ p → p < 5 → f p = nI (w p)) 5 (fun i f hi hI ih => ?_) 0 (σ 6) (Nat.zero_le _) ⟨fun p hp => absurd hp (by omega), fun p _ hp => hw p hp⟩
    · rw [xueq] at key
      exact key
    · refine x_iload_n C rfl d_m_fire_17 ?_
      refine x_iconst C (nI 5) rfl d_m_fire_18 ?_
      refine x_icmpN_ge C (by omega) (by omega) d_m_fire_19 (fun z => ?_) (fun z => ?_)
      · refine x_iconst C (nI 1) rfl d_m_fire_58 ?_
        refine R (bI_nar true) ⟨by rw [ho]; rfl, h, ?_, fun k hk => xun σ (by omega) _⟩ d_m_fire_59
        rw [eW]
        exact fun p hp => hI.1 p (by omega)
      · refine x_aload_n C rfl d_m_fire_22 ?_
        refine x_geta C K 6 rfl (by decide) d_m_fire_23 ?_
        refine x_iload_n C rfl d_m_fire_26 ?_
        refine x_dup2 C rfl rfl d_m_fire_27 ?_
        refine x_iald C K (k := 6) (N := 5) rfl rfl (by omega) (hI.2 i (by omega) (by omega)) d_m_fire_28 ?_
        refine x_aload_n C rfl d_m_fire_29 ?_
        refine x_geta C K 5 rfl (by decide) d_m_fire_30 ?_
        refine x_iconst C (nI 5) rfl d_m_fire_33 ?_
        refine x_iload_n C rfl d_m_fire_34 ?_
        refine x_imulN C d_m_fire_35 ?_
        refine x_iload_n C rfl d_m_fire_36 ?_
        refine x_iaddN C d_m_fire_37 ?_
        refine x_iald C K (k := 5) (N := 30) rfl rfl (by omega) (h.2.2.2.2.2 t i (by omega) (by omega)) d_m_fire_38 ?_
        refine x_aload_n C rfl d_m_fire_39 ?_
        refine x_geta C K 4 rfl (by decide) d_m_fire_40 ?_
        refine x_iconst C (nI 5) rfl d_m_fire_43 ?_
        refine x_iload_n C rfl d_m_fire_44 ?_
        refine x_imulN C d_m_fire_45 ?_
        refine x_iload_n C rfl d_m_fire_46 ?_
        refine x_iaddN C d_m_fire_47 ?_
        refine x_iald C K (k := 4) (N := 30) rfl rfl (by omega) (h.2.2.2.2.1 t i (by omega) (by omega)) d_m_fire_48 ?_
        refine x_isub C d_m_fire_49 ?_
        refine x_iadd C d_m_fire_50 ?_
        refine x_iast C K (k := 6) (N := 5) rfl rfl (by omega) d_m_fire_51 ?_
        refine x_iincN (b := 1) C rfl rfl d_m_fire_52 ?_
        dsimp only [xst]
        refine x_goto C d_m_fire_55 ?_
        rw [nI_fire (hle i (by omega)), xuu, xus]
        refine ih _ z ⟨fun p hp => ?_, fun p h1 h2 => ?_⟩
        · by_cases e : p = i
          · rw [e, upd_s]; rfl
          · rw [upd_n _ _ e]; exact hI.1 p (by omega)
        · rw [upd_n _ _ (by omega)]; exact hI.2 p (by omega) h2
  · refine x_iconst C (nI 0) rfl d_m_fire_13 ?_
    exact R (bI_nar false) ⟨by rw [ho]; rfl, h, by simpa [fiW, ho] using hw, fun _ _ => rfl⟩ d_m_fire_14
end
section
/-! CoverRoundsModel: rounds -/
theorem RM.fr {N : XNet} {S : List Nat} {σ τ : XS} (h : RM N σ) (hf : frm S σ τ) (hs : (S.all (fun k => decide (6 ≤ k))) = true) : RM N τ := by
  refine h.keep (fun k h1 => hf k (fun e => ?_))
  have := List.all_eq_true.mp hs k e
  simp only [decide_eq_true_eq] at this
  omega
theorem mk0.at {a : Nat → Int32} {w : Mk} (h : mk0 a w) : mkAt a 0 w := fun p hp => by rw [Nat.zero_add]; exact h p hp
theorem lsAt.get0 {a : Nat → Int32} {A : List Mk} (h : lsAt a 0 A) {k : Nat} (hk : k < A.length) : mkAt a (5 * k) (A.getD k (fun _ => 0)) := by
  have := h.get hk
  rw [Nat.zero_add] at this
  exact this
theorem okM.b {P B : Nat} {m : Mk} (h : okM P B m) (hB : B ≤ 1000000000) : ∀ p, p < 5 → m p < 2 ^ 31 := fun p _ => by have := h.1 p; omega
theorem c_m_takeIn (l : Launch) {σ : XS} {P B : Nat} {w : Mk} {A : List Mk} (hB : B ≤ 1000000) (hw : mk0 (σ 25) w) (ow : okM P B w) (hA : lsAt (σ 12) 0 A) (oA : okL P B A) (hl : A.length ≤ 1490) (hc : σ 13 0 = nI A.length) : XCv true l y_m_takeIn b_m_takeIn 4 1 25 (fun q => [.ref (q 0)]) σ (fun σ' => frm [12, 13] σ σ' ∧ lsAt (σ' 12) 0 (addL A w) ∧ σ' 13 0 = nI (addL A w).length) := by
  refine XCv.of (by decide) rfl (fun _ => rfl) (fun _ => rfl) (fun E q cA hEl C K R => ?_)
  subst hEl
  refine x_iconst C (nI 0) rfl d_m_takeIn_0 ?_
  refine x_istore_n C 1 rfl rfl rfl d_m_takeIn_1 ?_
  dsimp only [xst]
  refine x_forS (fun k (_ : Unit) => Wx E 2 [.ref (q 0), .int (nI k)] [] σ) (fun k _ => (A.take k).any (fun m => leM m w) = false) A.length (fun k _ hk hI ih => ?_) 0 () (Nat.zero_le _) (by simp)
  refine x_iload_n C rfl d_m_takeIn_2 ?_
  refine x_aload_n C rfl d_m_takeIn_3 ?_
  refine x_getv C K 13 rfl rfl hc d_m_takeIn_4 ?_
  refine x_icmpN_ge C (by omega) (by omega) d_m_takeIn_7 (fun z => ?_) (fun z => ?_)
  · have z0 : anyLe A w = false := by rw [List.take_of_length_le z] at hI; exact hI
    have key := x_forS (fun k f => Wx E 39 [.ref (q 0), .int (nI ((A.take k).filter (fun m => !leM w m)).length), .int (nI k)] [] (va_up σ 12 f)) (fun k f => lsAt f 0 ((A.take k).filter (fun m => !leM w m)) ∧ ∀ j, k ≤ j → j < A.length → mkAt f (5 * j) (A.getD j (fun _ => 0))) A.length (fun k f hk hI ih => ?_) 0 (σ 12) (Nat.zero_le _) ⟨fun k m hm => by simp at hm, fun j _ hj => hA.get0 hj⟩
    · refine x_iconst C (nI 0) rfl d_m_takeIn_35 ?_
      refine x_istore_n C 1 rfl rfl rfl d_m_takeIn_36 ?_
      dsimp only [xst]
      refine x_iconst C (nI 0) rfl d_m_takeIn_37 ?_
      refine x_istore_n C 2 rfl rfl rfl d_m_takeIn_38 ?_
      dsimp only [xst]
      rw [xueq] at key
      exact key
    · have hkl : ((A.take k).filter (fun m => !leM w m)).length ≤ k := Nat.le_trans (List.length_filter_le _ _) (by rw [List.length_take]; omega)
      refine x_iload_n C rfl d_m_takeIn_39 ?_
      refine x_aload_n C rfl d_m_takeIn_40 ?_
      refine x_getv C K 13 rfl rfl hc d_m_takeIn_41 ?_
      refine x_icmpN_ge C (by omega) (by omega) d_m_takeIn_44 (fun z => ?_) (fun z => ?_)
      · have eA : (A.take k).filter (fun m => !leM w m) = A.filter (fun m => !leM w m) := by rw [List.take_of_length_le z]
        rw [eA] at hI hkl ⊢
        generalize hF : A.filter (fun m => !leM w m) = F at hI hkl ⊢
        refine x_iconst C (nI 0) rfl d_m_takeIn_107 ?_
        refine x_istore_n C 2 rfl rfl rfl d_m_takeIn_108 ?_
        dsimp only [xst]
        refine x_forS (fun i f => Wx E 109 [.ref (q 0), .int (nI F.length), .int (nI i)] [] (va_up σ 12 f)) (fun i f => lsAt f 0 F ∧ ∀ p, p < i → f (5 * F.length + p) = nI (w p)) 5 (fun i f hi hI2 ih2 => ?_) 0 f (Nat.zero_le _) ⟨hI.1, fun p hp => absurd hp (by omega)⟩
        refine x_iload_n C rfl d_m_takeIn_109 ?_
        refine x_iconst C (nI 5) rfl d_m_takeIn_110 ?_
        refine x_icmpN_ge C (by omega) (by omega) d_m_takeIn_111 (fun z2 => ?_) (fun z2 => ?_)
        · refine x_aload_n C rfl d_m_takeIn_136 ?_
          refine x_iload_n C rfl d_m_takeIn_137 ?_
          refine x_iconst C (nI 1) rfl d_m_takeIn_138 ?_
          refine x_iaddN C d_m_takeIn_139 ?_
          refine x_puti C K 13 rfl rfl rfl d_m_takeIn_140 ?_
          have eL : addL A w = F ++ [w] := by rw [addL, if_neg (by simp [z0]), hF]
          refine R ⟨((frm.rf _ σ).up (by decide) _).up (by decide) _, ?_, ?_⟩ d_m_takeIn_143
          · rw [eL]
            refine lsAt_app hI2.1 (fun p hp => ?_)
            rw [Nat.zero_add]
            exact hI2.2 p (by omega)
          · rw [eL, List.length_append]; rfl
        · refine x_aload_n C rfl d_m_takeIn_114 ?_
          refine x_geta C K 12 rfl (by decide) d_m_takeIn_115 ?_
          refine x_iconst C (nI 5) rfl d_m_takeIn_118 ?_
          refine x_iload_n C rfl d_m_takeIn_119 ?_
          refine x_imulN C d_m_takeIn_120 ?_
          refine x_iload_n C rfl d_m_takeIn_121 ?_
          refine x_iaddN C d_m_takeIn_122 ?_
          refine x_aload_n C rfl d_m_takeIn_123 ?_
          refine x_geta C K 25 rfl (by decide) d_m_takeIn_124 ?_
          refine x_iload_n C rfl d_m_takeIn_127 ?_
          refine x_iald C K (k := 25) (N := 5) rfl rfl (by omega) (hw i (by omega)) d_m_takeIn_128 ?_
          refine x_iast C K (k := 12) (N := 7500) rfl rfl (by omega) d_m_takeIn_129 ?_
          refine x_iincN (b := 1) C rfl rfl d_m_takeIn_130 ?_
          dsimp only [xst]
          refine x_goto C d_m_takeIn_133 ?_
          rw [xuu, xus]
          refine ih2 _ z2 ⟨lsAt_congr hI2.1 (fun j _ hj => upd_n _ _ (by omega)), fun p hp => ?_⟩
          by_cases e : p = i
          · rw [e, upd_s]
          · rw [upd_n _ _ (by omega)]; exact hI2.2 p (by omega)
      · have hm := hI.2 k (Nat.le_refl _) z
        have om := oA.getD k
        refine x_aload_n C rfl d_m_takeIn_47 ?_
        refine x_geta C K 12 rfl (by decide) d_m_takeIn_48 ?_
        refine x_iconst C (nI 5) rfl d_m_takeIn_51 ?_
        refine x_iload_n C rfl d_m_takeIn_52 ?_
        refine x_imulN C d_m_takeIn_53 ?_
        refine x_aload_n C rfl d_m_takeIn_54 ?_
        refine x_geta C K 25 rfl (by decide) d_m_takeIn_55 ?_
        refine x_iconst C (nI 0) rfl d_m_takeIn_58 ?_
        refine x_callSi C K s_m_83 (c_m_tops (e_l E) (k0 := 12) (n0 := 7500) (k2 := 25) (n2 := 5) (a := 5 * k) (b := 0) (u := A.getD k (fun _ => 0)) (v := w) rfl rfl rfl rfl (by omega) (by omega) hm (show mkAt (σ 25) 0 w from hw.at) (om.b (by omega)) (ow.b (by omega))) rfl rfl rfl rfl rfl rfl d_m_takeIn_59 (fun r σ' hr => ?_)
        obtain ⟨rfl, rfl⟩ := hr
        refine x_ifB_ne C d_m_takeIn_62 (fun z2 => ?_) (fun z2 => ?_)
        · refine x_iincN (b := 1) C rfl rfl d_m_takeIn_101 ?_
          dsimp only [xst]
          refine x_goto C d_m_takeIn_104 ?_
          have eF : (A.take (k + 1)).filter (fun m => !leM w m) = (A.take k).filter (fun m => !leM w m) := by rw [take_filter z, z2]; simp
          have := ih f z ⟨by rw [eF]; exact hI.1, fun j h1 h2 => hI.2 j (by omega) h2⟩
          rw [eF] at this
          exact this
        · have eF : (A.take (k + 1)).filter (fun m => !leM w m) = (A.take k).filter (fun m => !leM w m) ++ [A.getD k (fun _ => 0)] := by rw [take_filter z, z2]; simp
          generalize hF : (A.take k).filter (fun m => !leM w m) = F at hI hkl eF ⊢
          generalize hme : A.getD k (fun _ => 0) = m at hm om eF z2 ⊢
          refine x_iconst C (nI 0) rfl d_m_takeIn_65 ?_
          refine x_istore_n C 3 rfl rfl rfl d_m_takeIn_66 ?_
          dsimp only [xst]
          refine x_forS (fun i f' => Wx E 67 [.ref (q 0), .int (nI F.length), .int (nI k), .int (nI i)] [] (va_up σ 12 f')) (fun i f' => (∀ j, (j < 5 * F.length ∨ 5 * F.length + i ≤ j) → f' j = f j) ∧ ∀ p, p < i → f' (5 * F.length + p) = nI (m p)) 5 (fun i f' hi hI3 ih3 => ?_) 0 f (Nat.zero_le _) ⟨fun _ _ => rfl, fun p hp => absurd hp (by omega)⟩
          refine x_iload_n C rfl d_m_takeIn_67 ?_
          refine x_iconst C (nI 5) rfl d_m_takeIn_68 ?_
          refine x_icmpN_ge C (by omega) (by omega) d_m_takeIn_69 (fun z3 => ?_) (fun z3 => ?_)
          · refine x_iincN (b := 1) C rfl rfl d_m_takeIn_98 ?_
            dsimp only [xst]
            refine x_iincN (b := 1) C rfl rfl d_m_takeIn_101 ?_
            dsimp only [xst]
            refine x_goto C d_m_takeIn_104 ?_
            refine x_take 3 ?_
            have := ih f' z ⟨?_, fun j h1 h2 p hp => ?_⟩
            · rw [eF, List.length_append] at this
              exact this
            · rw [eF]
              refine lsAt_app (lsAt_congr hI.1 (fun j _ hj => hI3.1 j (Or.inl (by omega)))) (fun p hp => ?_)
              rw [Nat.zero_add]
              exact hI3.2 p (by omega)
            · rw [hI3.1 _ (Or.inr (by omega))]
              exact hI.2 j (by omega) h2 p hp
          · have hv : va_up σ 12 f' 12 (5 * k + i) = nI (m i) := by
              rw [xus, hI3.1 _ (Or.inr (by omega))]
              exact hm i (by omega)
            refine x_aload_n C rfl d_m_takeIn_72 ?_
            refine x_geta C K 12 rfl (by decide) d_m_takeIn_73 ?_
            refine x_iconst C (nI 5) rfl d_m_takeIn_76 ?_
            refine x_iload_n C rfl d_m_takeIn_77 ?_
            refine x_imulN C d_m_takeIn_78 ?_
            refine x_iload_n C rfl d_m_takeIn_79 ?_
            refine x_iaddN C d_m_takeIn_80 ?_
            refine x_aload_n C rfl d_m_takeIn_81 ?_
            refine x_geta C K 12 rfl (by decide) d_m_takeIn_82 ?_
            refine x_iconst C (nI 5) rfl d_m_takeIn_85 ?_
            refine x_iload_n C rfl d_m_takeIn_86 ?_
            refine x_imulN C d_m_takeIn_87 ?_
            refine x_iload_n C rfl d_m_takeIn_88 ?_
            refine x_iaddN C d_m_takeIn_89 ?_
            refine x_iald C K (k := 12) (N := 7500) rfl rfl (by omega) hv d_m_takeIn_90 ?_
            refine x_iast C K (k := 12) (N := 7500) rfl rfl (by omega) d_m_takeIn_91 ?_
            refine x_iincN (b := 1) C rfl rfl d_m_takeIn_92 ?_
            dsimp only [xst]
            refine x_goto C d_m_takeIn_95 ?_
            rw [xuu, xus]
            refine ih3 _ z3 ⟨fun j hj => ?_, fun p hp => ?_⟩
            · rw [upd_n _ _ (by omega)]; exact hI3.1 j (by omega)
            · by_cases e : p = i
              · rw [e, upd_s]
              · rw [upd_n _ _ (by omega)]; exact hI3.2 p (by omega)
  · have hm := hA.get0 z
    have om := oA.getD k
    refine x_aload_n C rfl d_m_takeIn_10 ?_
    refine x_geta C K 25 rfl (by decide) d_m_takeIn_11 ?_
    refine x_iconst C (nI 0) rfl d_m_takeIn_14 ?_
    refine x_aload_n C rfl d_m_takeIn_15 ?_
    refine x_geta C K 12 rfl (by decide) d_m_takeIn_16 ?_
    refine x_iconst C (nI 5) rfl d_m_takeIn_19 ?_
    refine x_iload_n C rfl d_m_takeIn_20 ?_
    refine x_imulN C d_m_takeIn_21 ?_
    refine x_callSi C K s_m_83 (c_m_tops (e_l E) (k0 := 25) (n0 := 5) (k2 := 12) (n2 := 7500) (a := 0) (b := 5 * k) (u := w) (v := A.getD k (fun _ => 0)) rfl rfl rfl rfl (by omega) (by omega) hw.at hm (ow.b (by omega)) (om.b (by omega))) rfl rfl rfl rfl rfl rfl d_m_takeIn_22 (fun r σ' hr => ?_)
    obtain ⟨rfl, rfl⟩ := hr
    refine x_ifB_eq C d_m_takeIn_25 (fun z2 => ?_) (fun z2 => ?_)
    · refine x_iincN (b := 1) C rfl rfl d_m_takeIn_29 ?_
      dsimp only [xst]
      refine x_goto C d_m_takeIn_32 ?_
      exact ih () z (by rw [take_any z, hI, z2]; rfl)
    · have z0 : anyLe A w = true := by
        have : (A.take (k + 1)).any (fun m => leM m w) = true := by rw [take_any z, z2]; simp
        obtain ⟨m, m1, m2⟩ := List.any_eq_true.mp this
        exact anyLe_iff.mpr ⟨m, List.mem_of_mem_take m1, m2⟩
      have eL : addL A w = A := by rw [addL, if_pos z0]
      exact R ⟨frm.rf _ _, by rw [eL]; exact hA, by rw [eL]; exact hc⟩ d_m_takeIn_28
theorem c_m_isInRound (l : Launch) {σ : XS} {P B k1 n1 j : Nat} {w : Mk} {A : List Mk} (hk1 : xk true k1 = 1) (hn1 : xlen true k1 = n1) (h5 : 5 ≤ n1) (hj : j ≤ 60) (hB : B ≤ 1000000) (hw : mk0 (σ k1) w) (ow : ∀ p, p < 5 → w p < 2 ^ 31) (hA : lsAt (σ 11) (1000 * j) A) (oA : okL P B A) (hl : A.length ≤ 200) (hc : σ 10 j = nI A.length) : XCi true l y_m_isInRound b_m_isInRound 5 .boolean 1 25 (fun q => [.ref (q 0), .ref (q k1), .int (nI j)]) σ (fun r σ' => r = bI (anyLe A w) ∧ σ = σ') := by
  refine XCi.of (by decide) rfl (fun _ => rfl) (fun _ => rfl) (fun E q cA hEl C K R => ?_)
  subst hEl
  refine x_iconst C (nI 0) rfl d_m_isInRound_0 ?_
  refine x_istore_n C 3 rfl rfl rfl d_m_isInRound_1 ?_
  dsimp only [xst]
  refine x_iconst C (nI 0) rfl d_m_isInRound_2 ?_
  refine x_istore C rfl rfl d_m_isInRound_3 ?_
  dsimp only [xst]
  refine x_for (fun k => Wx E 5 [.ref (q 0), .ref (q k1), .int (nI j), .int (bI ((A.take k).any (fun m => leM m w))), .int (nI k)] [] σ) A.length (fun k hk ih => ?_) 0 (Nat.zero_le _)
  refine x_iload C rfl d_m_isInRound_5 ?_
  refine x_aload_n C rfl d_m_isInRound_7 ?_
  refine x_geta C K 10 rfl (by decide) d_m_isInRound_8 ?_
  refine x_iload_n C rfl d_m_isInRound_11 ?_
  refine x_iald C K (k := 10) (N := 61) rfl rfl (by omega) hc d_m_isInRound_12 ?_
  refine x_icmpN_ge C (by omega) (by omega) d_m_isInRound_13 (fun z => ?_) (fun z => ?_)
  · refine x_iload_n C rfl d_m_isInRound_54 ?_
    refine R (bI_nar _) ⟨?_, rfl⟩ d_m_isInRound_55
    rw [List.take_of_length_le z]; rfl
  · have hm := hA.get z
    have om := oA.getD k
    have ih' := ih z
    rw [take_any z] at ih'
    generalize A.getD k (fun _ => 0) = m at hm om ih'
    generalize (A.take k).any (fun m => leM m w) = b at ih' ⊢
    have cont : Wx E 47 [.ref (q 0), .ref (q k1), .int (nI j), .int (bI b), .int (nI k)] [.int (bI (b || leM m w))] σ := by
      refine x_istore_n C 3 rfl rfl rfl d_m_isInRound_47 ?_
      dsimp only [xst]
      refine x_iincN (b := 1) C rfl rfl d_m_isInRound_48 ?_
      dsimp only [xst]
      refine x_goto C d_m_isInRound_51 ?_
      exact ih'
    refine x_iload_n C rfl d_m_isInRound_16 ?_
    refine x_ifB_ne C d_m_isInRound_17 (fun z2 => ?_) (fun z2 => ?_)
    · refine x_iconst C (nI 1) rfl d_m_isInRound_42 ?_
      refine x_goto C d_m_isInRound_43 ?_
      rw [show bI (b || leM m w) = nI 1 by rw [z2]; rfl] at cont
      exact cont
    · refine x_aload_n C rfl d_m_isInRound_20 ?_
      refine x_iconst C (nI 0) rfl d_m_isInRound_21 ?_
      refine x_aload_n C rfl d_m_isInRound_22 ?_
      refine x_geta C K 11 rfl (by decide) d_m_isInRound_23 ?_
      refine x_sipush C (nI 1000) (by decide) d_m_isInRound_26 ?_
      refine x_iload_n C rfl d_m_isInRound_29 ?_
      refine x_imulN C d_m_isInRound_30 ?_
      refine x_iconst C (nI 5) rfl d_m_isInRound_31 ?_
      refine x_iload C rfl d_m_isInRound_32 ?_
      refine x_imulN C d_m_isInRound_34 ?_
      refine x_iaddN C d_m_isInRound_35 ?_
      refine x_callSi C K s_m_83 (c_m_tops (e_l E) (k0 := k1) (n0 := n1) (k2 := 11) (n2 := 61000) (a := 0) (b := 1000 * j + 5 * k) (u := w) (v := m) hk1 hn1 rfl rfl (by omega) (by omega) hw.at hm ow (om.b (by omega))) rfl rfl rfl rfl rfl rfl d_m_isInRound_36 (fun r σ' hr => ?_)
      obtain ⟨rfl, rfl⟩ := hr
      refine x_ifB_eq C d_m_isInRound_39 (fun z3 => ?_) (fun z3 => ?_)
      · refine x_iconst C (nI 0) rfl d_m_isInRound_46 ?_
        rw [show bI (b || leM m w) = nI 0 by rw [z2, z3]; rfl] at cont
        exact cont
      · refine x_iconst C (nI 1) rfl d_m_isInRound_42 ?_
        refine x_goto C d_m_isInRound_43 ?_
        rw [show bI (b || leM m w) = nI 1 by rw [z3]; simp [bI]] at cont
        exact cont
theorem c_m_isFirstIn (l : Launch) {σ : XS} {P B : Nat} {w : Mk} {A : List Mk} (hB : B ≤ 1000000) (hw : mk0 (σ 1) w) (ow : ∀ p, p < 5 → w p < 2 ^ 31) (hA : lsAt (σ 12) 0 A) (oA : okL P B A) (hl : A.length ≤ 1490) (hc : σ 13 0 = nI A.length) : XCi true l y_m_isFirstIn b_m_isFirstIn 3 .boolean 1 25 (fun q => [.ref (q 0)]) σ (fun r σ' => r = bI (anyLe A w) ∧ σ = σ') := by
  refine XCi.of (by decide) rfl (fun _ => rfl) (fun _ => rfl) (fun E q cA hEl C K R => ?_)
  subst hEl
  refine x_iconst C (nI 0) rfl d_m_isFirstIn_0 ?_
  refine x_istore_n C 1 rfl rfl rfl d_m_isFirstIn_1 ?_
  dsimp only [xst]
  refine x_iconst C (nI 0) rfl d_m_isFirstIn_2 ?_
  refine x_istore_n C 2 rfl rfl rfl d_m_isFirstIn_3 ?_
  dsimp only [xst]
  refine x_for (fun k => Wx E 4 [.ref (q 0), .int (bI ((A.take k).any (fun m => leM m w))), .int (nI k)] [] σ) A.length (fun k hk ih => ?_) 0 (Nat.zero_le _)
  refine x_iload_n C rfl d_m_isFirstIn_4 ?_
  refine x_aload_n C rfl d_m_isFirstIn_5 ?_
  refine x_getv C K 13 rfl rfl hc d_m_isFirstIn_6 ?_
  refine x_icmpN_ge C (by omega) (by omega) d_m_isFirstIn_9 (fun z => ?_) (fun z => ?_)
  · refine x_iload_n C rfl d_m_isFirstIn_46 ?_
    refine R (bI_nar _) ⟨?_, rfl⟩ d_m_isFirstIn_47
    rw [List.take_of_length_le z]; rfl
  · have hm := hA.get0 z
    have om := oA.getD k
    have ih' := ih z
    rw [take_any z] at ih'
    generalize A.getD k (fun _ => 0) = m at hm om ih'
    generalize (A.take k).any (fun m => leM m w) = b at ih' ⊢
    have cont : Wx E 39 [.ref (q 0), .int (bI b), .int (nI k)] [.int (bI (b || leM m w))] σ := by
      refine x_istore_n C 1 rfl rfl rfl d_m_isFirstIn_39 ?_
      dsimp only [xst]
      refine x_iincN (b := 1) C rfl rfl d_m_isFirstIn_40 ?_
      dsimp only [xst]
      refine x_goto C d_m_isFirstIn_43 ?_
      exact ih'
    refine x_iload_n C rfl d_m_isFirstIn_12 ?_
    refine x_ifB_ne C d_m_isFirstIn_13 (fun z2 => ?_) (fun z2 => ?_)
    · refine x_iconst C (nI 1) rfl d_m_isFirstIn_34 ?_
      refine x_goto C d_m_isFirstIn_35 ?_
      rw [show bI (b || leM m w) = nI 1 by rw [z2]; rfl] at cont
      exact cont
    · refine x_aload_n C rfl d_m_isFirstIn_16 ?_
      refine x_geta C K 1 rfl (by decide) d_m_isFirstIn_17 ?_
      refine x_iconst C (nI 0) rfl d_m_isFirstIn_20 ?_
      refine x_aload_n C rfl d_m_isFirstIn_21 ?_
      refine x_geta C K 12 rfl (by decide) d_m_isFirstIn_22 ?_
      refine x_iconst C (nI 5) rfl d_m_isFirstIn_25 ?_
      refine x_iload_n C rfl d_m_isFirstIn_26 ?_
      refine x_imulN C d_m_isFirstIn_27 ?_
      refine x_callSi C K s_m_83 (c_m_tops (e_l E) (k0 := 1) (n0 := 5) (k2 := 12) (n2 := 7500) (a := 0) (b := 5 * k) (u := w) (v := m) rfl rfl rfl rfl (by omega) (by omega) hw.at hm ow (om.b (by omega))) rfl rfl rfl rfl rfl rfl d_m_isFirstIn_28 (fun r σ' hr => ?_)
      obtain ⟨rfl, rfl⟩ := hr
      refine x_ifB_eq C d_m_isFirstIn_31 (fun z3 => ?_) (fun z3 => ?_)
      · refine x_iconst C (nI 0) rfl d_m_isFirstIn_38 ?_
        rw [show bI (b || leM m w) = nI 0 by rw [z2, z3]; rfl] at cont
        exact cont
      · refine x_iconst C (nI 1) rfl d_m_isFirstIn_34 ?_
        refine x_goto C d_m_isFirstIn_35 ?_
        rw [show bI (b || leM m w) = nI 1 by rw [z3]; simp [bI]] at cont
        exact cont
theorem c_m_isSame (l : Launch) {σ : XS} {P B : Nat} {A D : List Mk} (hB : B ≤ 1000000) (hA : lsAt (σ 14) 0 A) (oA : okL P B A) (la : A.length ≤ 1490) (ca : σ 15 0 = nI A.length) (hD : lsAt (σ 12) 0 D) (oD : okL P B D) (ld : D.length ≤ 1490) (cd : σ 13 0 = nI D.length) : XCi true l y_m_isSame b_m_isSame 5 .boolean 1 25 (fun q => [.ref (q 0)]) σ (fun r σ' => r = bI (sameL A D) ∧ σ = σ') := by
  refine XCi.of (by decide) rfl (fun _ => rfl) (fun _ => rfl) (fun E q cA hEl C K R => ?_)
  subst hEl
  refine x_aload_n C rfl d_m_isSame_0 ?_
  refine x_getv C K 13 rfl rfl cd d_m_isSame_1 ?_
  refine x_aload_n C rfl d_m_isSame_4 ?_
  refine x_getv C K 15 rfl rfl ca d_m_isSame_5 ?_
  refine x_cmpB_ne C (by omega) (by omega) d_m_isSame_8 d_m_isSame_11 d_m_isSame_12 d_m_isSame_15 ?_
  refine x_istore_n C 1 rfl rfl rfl d_m_isSame_16 ?_
  dsimp only [xst]
  refine x_iconst C (nI 0) rfl d_m_isSame_17 ?_
  refine x_istore_n C 2 rfl rfl rfl d_m_isSame_18 ?_
  dsimp only [xst]
  refine x_forS (fun k b => Wx E 19 [.ref (q 0), .int (bI b), .int (nI k)] [] σ) (fun k b => b = (decide (D.length = A.length) && (D.take k).all (fun m => anyLe A m))) D.length (fun k b hk hI ih => ?_) 0 (decide (D.length = A.length)) (Nat.zero_le _) (by simp)
  refine x_iload_n C rfl d_m_isSame_19 ?_
  refine x_aload_n C rfl d_m_isSame_20 ?_
  refine x_getv C K 13 rfl rfl cd d_m_isSame_21 ?_
  refine x_icmpN_ge C (by omega) (by omega) d_m_isSame_24 (fun z => ?_) (fun z => ?_)
  · refine x_iload_n C rfl d_m_isSame_90 ?_
    refine R (bI_nar _) ⟨?_, rfl⟩ d_m_isSame_91
    rw [hI, List.take_of_length_le z]; rfl
  · refine x_iload_n C rfl d_m_isSame_27 ?_
    refine x_ifB_eq C d_m_isSame_28 (fun z2 => ?_) (fun z2 => ?_)
    · refine x_iload_n C rfl d_m_isSame_90 ?_
      refine R (bI_nar _) ⟨?_, rfl⟩ d_m_isSame_91
      rw [z2]
      rw [z2] at hI
      cases hs : sameL A D with
      | false => rfl
      | true =>
        simp only [sameL, Bool.and_eq_true] at hs
        rw [hs.1, Bool.true_and] at hI
        have : (D.take k).all (fun m => anyLe A m) = true := List.all_eq_true.mpr (fun m hm => List.all_eq_true.mp hs.2 m (List.mem_of_mem_take hm))
        rw [this] at hI
        cases hI
    · have hm := hD.get0 z
      have om := oD.getD k
      have ih' := ih (anyLe A (D.getD k (fun _ => 0))) z (by rw [take_all z, ← Bool.and_assoc, ← hI, z2, Bool.true_and])
      generalize D.getD k (fun _ => 0) = m at hm om ih'
      refine x_iconst C (nI 0) rfl d_m_isSame_31 ?_
      refine x_istore_n C 3 rfl rfl rfl d_m_isSame_32 ?_
      dsimp only [xst]
      refine x_iconst C (nI 0) rfl d_m_isSame_33 ?_
      refine x_istore C rfl rfl d_m_isSame_34 ?_
      dsimp only [xst]
      refine x_for (fun c => Wx E 36 [.ref (q 0), .int (bI b), .int (nI k), .int (bI ((A.take c).any (fun x => leM x m))), .int (nI c)] [] σ) A.length (fun c hc ih2 => ?_) 0 (Nat.zero_le _)
      refine x_iload C rfl d_m_isSame_36 ?_
      refine x_aload_n C rfl d_m_isSame_38 ?_
      refine x_getv C K 15 rfl rfl ca d_m_isSame_39 ?_
      refine x_icmpN_ge C (by omega) (by omega) d_m_isSame_42 (fun z3 => ?_) (fun z3 => ?_)
      · rw [List.take_of_length_le z3]
        refine x_iload_n C rfl d_m_isSame_82 ?_
        refine x_istore_n C 1 rfl rfl rfl d_m_isSame_83 ?_
        dsimp only [xst]
        refine x_iincN (b := 1) C rfl rfl d_m_isSame_84 ?_
        dsimp only [xst]
        refine x_goto C d_m_isSame_87 ?_
        refine x_take 3 ?_
        exact ih'
      · have hx := hA.get0 z3
        have ox := oA.getD c
        have ih2' := ih2 z3
        rw [take_any z3] at ih2'
        generalize A.getD c (fun _ => 0) = x at hx ox ih2'
        generalize (A.take c).any (fun x => leM x m) = b2 at ih2' ⊢
        have cont : Wx E 75 [.ref (q 0), .int (bI b), .int (nI k), .int (bI b2), .int (nI c)] [.int (bI (b2 || leM x m))] σ := by
          refine x_istore_n C 3 rfl rfl rfl d_m_isSame_75 ?_
          dsimp only [xst]
          refine x_iincN (b := 1) C rfl rfl d_m_isSame_76 ?_
          dsimp only [xst]
          refine x_goto C d_m_isSame_79 ?_
          exact ih2'
        refine x_iload_n C rfl d_m_isSame_45 ?_
        refine x_ifB_ne C d_m_isSame_46 (fun z4 => ?_) (fun z4 => ?_)
        · refine x_iconst C (nI 1) rfl d_m_isSame_70 ?_
          refine x_goto C d_m_isSame_71 ?_
          rw [show bI (b2 || leM x m) = nI 1 by rw [z4]; rfl] at cont
          exact cont
        · refine x_aload_n C rfl d_m_isSame_49 ?_
          refine x_geta C K 12 rfl (by decide) d_m_isSame_50 ?_
          refine x_iconst C (nI 5) rfl d_m_isSame_53 ?_
          refine x_iload_n C rfl d_m_isSame_54 ?_
          refine x_imulN C d_m_isSame_55 ?_
          refine x_aload_n C rfl d_m_isSame_56 ?_
          refine x_geta C K 14 rfl (by decide) d_m_isSame_57 ?_
          refine x_iconst C (nI 5) rfl d_m_isSame_60 ?_
          refine x_iload C rfl d_m_isSame_61 ?_
          refine x_imulN C d_m_isSame_63 ?_
          refine x_callSi C K s_m_83 (c_m_tops (e_l E) (k0 := 12) (n0 := 7500) (k2 := 14) (n2 := 7500) (a := 5 * k) (b := 5 * c) (u := m) (v := x) rfl rfl rfl rfl (by omega) (by omega) hm hx (om.b (by omega)) (ox.b (by omega))) rfl rfl rfl rfl rfl rfl d_m_isSame_64 (fun r σ' hr => ?_)
          obtain ⟨rfl, rfl⟩ := hr
          refine x_ifB_eq C d_m_isSame_67 (fun z5 => ?_) (fun z5 => ?_)
          · refine x_iconst C (nI 0) rfl d_m_isSame_74 ?_
            rw [show bI (b2 || leM x m) = nI 0 by rw [z4, z5]; rfl] at cont
            exact cont
          · refine x_iconst C (nI 1) rfl d_m_isSame_70 ?_
            refine x_goto C d_m_isSame_71 ?_
            rw [show bI (b2 || leM x m) = nI 1 by rw [z5]; simp [bI]] at cont
            exact cont
end
section
theorem c_m_step (l : Launch) {σ : XS} {N : XNet} {B : Nat} {A : List Mk} (hN : NOK N) (h : RM N σ) (hl : A.length ≤ 200) (hb : lsAt (σ 14) 0 A) (hcb : σ 15 0 = nI A.length) (hA : lsAt (σ 12) 0 A) (oA : okL (nP N) B A) (hB : B ≤ 9000) (hc : σ 13 0 = nI A.length) : XCv true l y_m_step b_m_step 5 2 60 (fun q => [.ref (q 0)]) σ (fun σ' => frm [12, 13, 25] σ σ' ∧ lsAt (σ' 12) 0 (stp N A).1 ∧ σ' 13 0 = nI (stp N A).1.length) := by
  refine XCv.of (by decide) rfl (fun _ => rfl) (fun _ => rfl) (fun E q cA hEl C K R => ?_)
  subst hEl
  have h5 := hN.1
  have h6 := hN.2.1
  refine x_iconst C (nI 0) rfl d_m_step_0 ?_
  refine x_istore_n C 1 rfl rfl rfl d_m_step_1 ?_
  dsimp only [xst]
  refine x_forS (fun k τ => Wx E 2 [.ref (q 0), .int (nI k)] [] τ) (fun k τ => frm [12, 13, 25] σ τ ∧ lsAt (τ 12) 0 (gK N A k (A, false)).1 ∧ τ 13 0 = nI (gK N A k (A, false)).1.length) A.length (fun k τ hk hI ih => ?_) 0 σ (Nat.zero_le _) ⟨frm.rf _ _, hA, hc⟩
  obtain ⟨f1, l1, c1⟩ := hI
  have g1 : (gK N A k (A, false)).1.length ≤ A.length + k * nT N := gK_len N A (A, false) k
  have ok1 := okL.gK hN oA (S := (A, false)) (oA.mono (by omega)) k
  have cb1 : τ 15 0 = nI A.length := by rw [f1 15 (by decide)]; exact hcb
  refine x_iload_n C rfl d_m_step_2 ?_
  refine x_aload_n C rfl d_m_step_3 ?_
  refine x_getv C K 15 rfl rfl cb1 d_m_step_4 ?_
  refine x_icmpN_ge C (by omega) (by omega) d_m_step_7 (fun z => ?_) (fun z => ?_)
  · have e : k = A.length := by omega
    subst e
    exact R ⟨f1, l1, c1⟩ d_m_step_100
  · have hm := hb.get0 z
    have om := oA.getD k
    have eS : gK N A (k + 1) (A, false) = gT N (A.getD k (fun _ => 0)) (nT N) (gK N A k (A, false)) := rfl
    have mul2 : k * nT N ≤ 199 * 6 := Nat.mul_le_mul (by omega) h6
    rw [eS] at ih
    generalize hS : gK N A k (A, false) = S at *
    generalize hme : A.getD k (fun _ => 0) = m at *
    refine x_iconst C (nI 0) rfl d_m_step_10 ?_
    refine x_istore_n C 2 rfl rfl rfl d_m_step_11 ?_
    dsimp only [xst]
    refine x_forS (fun t τ => Wx E 12 [.ref (q 0), .int (nI k), .int (nI t)] [] τ) (fun t τ => frm [12, 13, 25] σ τ ∧ lsAt (τ 12) 0 (gT N m t S).1 ∧ τ 13 0 = nI (gT N m t S).1.length) (nT N) (fun t τ ht hI2 ih2 => ?_) 0 τ (Nat.zero_le _) ⟨f1, l1, c1⟩
    obtain ⟨f2, l2, c2⟩ := hI2
    have hT : RM N τ := h.fr f2 (by decide)
    have g2 := gT_len N m S t
    refine x_iload_n C rfl d_m_step_12 ?_
    refine x_aload_n C rfl d_m_step_13 ?_
    refine x_getv C K 3 rfl rfl hT.2.1 d_m_step_14 ?_
    refine x_icmpN_ge C (by omega) (by omega) d_m_step_17 (fun z2 => ?_) (fun z2 => ?_)
    · have e : t = nT N := by omega
      subst e
      refine x_iincN (b := 1) C rfl rfl d_m_step_94 ?_
      dsimp only [xst]
      refine x_goto C d_m_step_97 ?_
      refine x_take 2 ?_
      exact ih τ z ⟨f2, l2, c2⟩
    · refine x_iconst C (nI 0) rfl d_m_step_20 ?_
      refine x_istore_n C 3 rfl rfl rfl d_m_step_21 ?_
      dsimp only [xst]
      have key := x_forS (fun i f => Wx E 22 [.ref (q 0), .int (nI k), .int (nI t), .int (nI i)] [] (va_up τ 25 f)) (fun i f => ∀ p, p < i → f p = nI (preM N t m p)) 5 (fun i f hi hI3 ih3 => ?_) 0 (τ 25) (Nat.zero_le _) (fun p hp => absurd hp (by omega))
      · rw [xueq] at key
        exact key
      · refine x_iload_n C rfl d_m_step_22 ?_
        refine x_iconst C (nI 5) rfl d_m_step_23 ?_
        refine x_icmpN_ge C (by omega) (by omega) d_m_step_24 (fun z3 => ?_) (fun z3 => ?_)
        · have ok2 := okL.gT hN om ok1 t
          refine x_aload_n C rfl d_m_step_84 ?_
          refine x_callVv C K s_m_90 (c_m_takeIn (e_l E) (P := nP N) (B := B + 5) (w := preM N t m) (A := (gT N m t S).1) (by omega) (fun p hp => hI3 p (by omega)) (om.pre hN) l2 ok2 (by omega) c2) rfl rfl rfl rfl rfl rfl d_m_step_85 (fun σ' hv => ?_)
          obtain ⟨s1, s2, s3⟩ := hv
          refine x_iincN (b := 1) C rfl rfl d_m_step_88 ?_
          dsimp only [xst]
          refine x_goto C d_m_step_91 ?_
          refine x_take 3 ?_
          exact ih2 σ' z2 ⟨(f2.up (by decide) f).tr s1 (by decide), s2, s3⟩
        · have htk := hT.2.2.2.2.1 t i (by omega) (by omega)
          have hgv := hT.2.2.2.2.2 t i (by omega) (by omega)
          have bt := hN.2.2.2.2.1 t i
          have bg := hN.2.2.2.2.2.1 t i
          have bm := om.1 i
          have hbs : va_up τ 25 f 14 (5 * k + i) = nI (m i) := by
            show τ 14 _ = _
            rw [f2 14 (by decide)]
            exact hm i (by omega)
          have cont : ∀ z : Int32, Wx E 76 [.ref (q 0), .int (nI k), .int (nI t), .int (nI i), .int z] [.int (nI (m i - ngv N t i)), .int (nI (ntk N t i)), .int (nI i), .ref (q 25)] (va_up τ 25 f) := by
            intro z
            refine x_iaddN C d_m_step_76 ?_
            refine x_iast C K (k := 25) (N := 5) rfl rfl (by omega) d_m_step_77 ?_
            refine x_iincN (b := 1) C rfl rfl d_m_step_78 ?_
            dsimp only [xst]
            refine x_goto C d_m_step_81 ?_
            rw [xuu, xus]
            refine x_take 4 ?_
            refine ih3 _ z3 (fun p hp => ?_)
            by_cases e : p = i
            · rw [e, upd_s]; rfl
            · rw [upd_n _ _ e]; exact hI3 p (by omega)
          refine x_aload_n C rfl d_m_step_27 ?_
          refine x_geta C K 14 rfl (by decide) d_m_step_28 ?_
          refine x_iconst C (nI 5) rfl d_m_step_31 ?_
          refine x_iload_n C rfl d_m_step_32 ?_
          refine x_imulN C d_m_step_33 ?_
          refine x_iload_n C rfl d_m_step_34 ?_
          refine x_iaddN C d_m_step_35 ?_
          refine x_iald C K (k := 14) (N := 7500) rfl rfl (by omega) hbs d_m_step_36 ?_
          refine x_aload_n C rfl d_m_step_37 ?_
          refine x_geta C K 5 rfl (by decide) d_m_step_38 ?_
          refine x_iconst C (nI 5) rfl d_m_step_41 ?_
          refine x_iload_n C rfl d_m_step_42 ?_
          refine x_imulN C d_m_step_43 ?_
          refine x_iload_n C rfl d_m_step_44 ?_
          refine x_iaddN C d_m_step_45 ?_
          refine x_iald C K (k := 5) (N := 30) rfl rfl (by omega) hgv d_m_step_46 ?_
          refine x_isub C d_m_step_47 ?_
          refine x_istore C rfl rfl d_m_step_48 ?_
          dsimp only [xst]
          refine x_aload_n C rfl d_m_step_50 ?_
          refine x_geta C K 25 rfl (by decide) d_m_step_51 ?_
          refine x_iload_n C rfl d_m_step_54 ?_
          refine x_aload_n C rfl d_m_step_55 ?_
          refine x_geta C K 4 rfl (by decide) d_m_step_56 ?_
          refine x_iconst C (nI 5) rfl d_m_step_59 ?_
          refine x_iload_n C rfl d_m_step_60 ?_
          refine x_imulN C d_m_step_61 ?_
          refine x_iload_n C rfl d_m_step_62 ?_
          refine x_iaddN C d_m_step_63 ?_
          refine x_iald C K (k := 4) (N := 30) rfl rfl (by omega) htk d_m_step_64 ?_
          refine x_iload C rfl d_m_step_65 ?_
          by_cases hgb : ngv N t i ≤ m i
          · rw [pk_sub hgb]
            refine x_ifN_le C (by omega) d_m_step_67 (fun z4 => ?_) (fun z4 => ?_)
            · have c0 := cont (nI (m i - ngv N t i))
              refine x_iconst C (nI 0) rfl d_m_step_75 ?_
              rw [z4] at c0 ⊢
              exact c0
            · refine x_iload C rfl d_m_step_70 ?_
              refine x_goto C d_m_step_72 ?_
              exact cont _
          · have hneg : nI (m i) - nI (ngv N t i) < 0 := pk_sneg (by omega) (by omega)
            refine x_if_le C d_m_step_67 (fun z4 => ?_) (fun z4 => absurd (Int32.le_of_lt hneg) z4)
            have c0 := cont (nI (m i) - nI (ngv N t i))
            refine x_iconst C (nI 0) rfl d_m_step_75 ?_
            rw [show m i - ngv N t i = 0 by omega] at c0
            exact c0
theorem c_m_leads (l : Launch) {σ : XS} {N : XNet} {t j : Nat} {x : Mk} (hN : NOK N) (h : RM N σ) (ht : t < 6) (hj : j ≤ 60) (hx : mk0 (σ 26) x) (bx : ∀ p, x p ≤ 10000) (hl : (rnd N j).length ≤ 200) (hb : lsAt (σ 11) (1000 * j) (rnd N j)) (hc : σ 10 j = nI (rnd N j).length) : XCi true l y_m_leads b_m_leads 5 .boolean 2 60 (fun q => [.ref (q 0), .ref (q 26), .int (nI t), .int (nI j)]) σ (fun r σ' => r = bI (decide (t < nT N) && ldB N j t x) ∧ frm [25] σ σ') := by
  refine XCi.of (by decide) rfl (fun _ => rfl) (fun _ => rfl) (fun E q cA hEl C K R => ?_)
  subst hEl
  have h6 := hN.2.1
  have et : (nI t).toNatClampNeg = t := nI_clamp (by omega)
  have hk1 : xk true 26 = 1 := rfl
  have hn1 : xlen true 26 = 5 := rfl
  refine x_aload_n C rfl d_m_leads_0 ?_
  refine x_aload_n C rfl d_m_leads_1 ?_
  refine x_iconst C (nI 0) rfl d_m_leads_2 ?_
  refine x_iload_n C rfl d_m_leads_3 ?_
  refine x_callVi C K s_m_116 (c_m_canFire (e_l E) (k1 := 26) (n1 := 5) (fr := 0) (mk := x) hN h rfl rfl (by omega) hx.at (fun p _ => by have := bx p; omega) (nI t)) rfl rfl rfl rfl rfl rfl d_m_leads_4 (fun r σ' hr => ?_)
  obtain ⟨rfl, rfl⟩ := hr
  rw [et, ltB_nI (by omega) (by omega)]
  refine x_ifB_ne C d_m_leads_7 (fun z => ?_) (fun z => ?_)
  · simp only [Bool.and_eq_true] at z
    have hle := leM_iff.mp z.2
    refine x_iconst C (nI 0) rfl d_m_leads_12 ?_
    refine x_istore C rfl rfl d_m_leads_13 ?_
    dsimp only [xst]
    have key := x_forS (fun i f => Wx E 15 [.ref (q 0), .ref (q 26), .int (nI t), .int (nI j), .int (nI i)] [] (va_up σ 25 f)) (fun i f => ∀ p, p < i → f p = nI (stM N t x p)) 5 (fun i f hi hI ih => ?_) 0 (σ 25) (Nat.zero_le _) (fun p hp => absurd hp (by omega))
    · rw [xueq] at key
      exact key
    · refine x_iload C rfl d_m_leads_15 ?_
      refine x_iconst C (nI 5) rfl d_m_leads_17 ?_
      refine x_icmpN_ge C (by omega) (by omega) d_m_leads_18 (fun z2 => ?_) (fun z2 => ?_)
      · refine x_aload_n C rfl d_m_leads_62 ?_
        refine x_aload_n C rfl d_m_leads_63 ?_
        refine x_geta C K 25 rfl (by decide) d_m_leads_64 ?_
        refine x_iload_n C rfl d_m_leads_67 ?_
        refine x_callVi C K s_m_119 (c_m_isInRound (e_l E) (P := nP N) (B := 20 + 5 * j) (k1 := 25) (n1 := 5) (j := j) (w := stM N t x) (A := rnd N j) rfl rfl (by omega) hj (by omega) (fun p hp => hI p (by omega)) (fun p _ => by have := stM_le hN (t := t) (bx p); omega) hb (okL.rnd hN j) hl hc) rfl rfl rfl rfl rfl rfl d_m_leads_68 (fun r σ' hr => ?_)
        obtain ⟨rfl, rfl⟩ := hr
        refine R (bI_nar _) ⟨?_, (frm.rf _ σ).up (by decide) f⟩ d_m_leads_71
        rw [ldB, z.1, z.2]; rfl
      · have b1 := bx i
        have b2 := hN.2.2.2.2.2.1 t i
        refine x_aload_n C rfl d_m_leads_21 ?_
        refine x_geta C K 25 rfl (by decide) d_m_leads_22 ?_
        refine x_iload C rfl d_m_leads_25 ?_
        refine x_aload_n C rfl d_m_leads_27 ?_
        refine x_iload C rfl d_m_leads_28 ?_
        refine x_iald C K hk1 hn1 (by omega) (hx i (by omega)) d_m_leads_30 ?_
        refine x_aload_n C rfl d_m_leads_31 ?_
        refine x_geta C K 5 rfl (by decide) d_m_leads_32 ?_
        refine x_iconst C (nI 5) rfl d_m_leads_35 ?_
        refine x_iload_n C rfl d_m_leads_36 ?_
        refine x_imulN C d_m_leads_37 ?_
        refine x_iload C rfl d_m_leads_38 ?_
        refine x_iaddN C d_m_leads_40 ?_
        refine x_iald C K (k := 5) (N := 30) rfl rfl (by omega) (h.2.2.2.2.2 t i ht (by omega)) d_m_leads_41 ?_
        refine x_iaddN C d_m_leads_42 ?_
        refine x_aload_n C rfl d_m_leads_43 ?_
        refine x_geta C K 4 rfl (by decide) d_m_leads_44 ?_
        refine x_iconst C (nI 5) rfl d_m_leads_47 ?_
        refine x_iload_n C rfl d_m_leads_48 ?_
        refine x_imulN C d_m_leads_49 ?_
        refine x_iload C rfl d_m_leads_50 ?_
        refine x_iaddN C d_m_leads_52 ?_
        refine x_iald C K (k := 4) (N := 30) rfl rfl (by omega) (h.2.2.2.2.1 t i ht (by omega)) d_m_leads_53 ?_
        refine x_isubN C (by have := hle i (by omega); omega) d_m_leads_54 ?_
        refine x_iast C K (k := 25) (N := 5) rfl rfl (by omega) d_m_leads_55 ?_
        refine x_iincN (b := 1) C rfl rfl d_m_leads_56 ?_
        dsimp only [xst]
        refine x_goto C d_m_leads_59 ?_
        rw [xuu, xus]
        refine ih _ z2 (fun p hp => ?_)
        by_cases e : p = i
        · rw [e, upd_s]; rfl
        · rw [upd_n _ _ e]; exact hI p (by omega)
  · refine x_iconst C (nI 0) rfl d_m_leads_10 ?_
    refine R (bI_nar false) ⟨?_, frm.rf _ _⟩ d_m_leads_11
    rw [ldB, ← Bool.and_assoc, z]; rfl
theorem c_m_tellRow (l : Launch) {σ : XS} {N : XNet} {i : Nat} (hN : NOK N) (h : RM N σ) (hi : i ≤ 60) (e1 : fin N i = true) (e2 : ∀ j, j < i → fin N j = false) (hl : ∀ j, j < i → (rnd N j).length ≤ 200) (hb : ∀ j, j < i → lsAt (σ 11) (1000 * j) (rnd N j)) (hc : ∀ j, j < i → σ 10 j = nI (rnd N j).length) (hla : σ 8 0 = nI i) : XCv true l y_m_tellRow b_m_tellRow 5 3 90 (fun q => [.ref (q 0)]) σ (fun σ' => frm [16, 25, 26] σ σ' ∧ ∀ k, k < i → σ' 16 k = nI (wrow N i k)) := by
  refine XCv.of (by decide) rfl (fun _ => rfl) (fun _ => rfl) (fun E q cA hEl C K R => ?_)
  subst hEl
  have h6 := hN.2.1
  refine x_aload_n C rfl d_m_tellRow_0 ?_
  refine x_geta C K 26 rfl (by decide) d_m_tellRow_1 ?_
  refine x_astore_n C 1 rfl rfl rfl d_m_tellRow_4 ?_
  dsimp only [xst]
  refine x_iconst C (nI 0) rfl d_m_tellRow_5 ?_
  refine x_istore_n C 2 rfl rfl rfl d_m_tellRow_6 ?_
  dsimp only [xst]
  have key0 := x_forS (fun p f => Wx E 7 [.ref (q 0), .ref (q 26), .int (nI p)] [] (va_up σ 26 f)) (fun p f => ∀ p', p' < p → f p' = nI (nfi N p')) 5 (fun p f hp0 hI0 ih0 => ?_) 0 (σ 26) (Nat.zero_le _) (fun p hp => absurd hp (by omega))
  · rw [xueq] at key0
    exact key0
  · refine x_iload_n C rfl d_m_tellRow_7 ?_
    refine x_iconst C (nI 5) rfl d_m_tellRow_8 ?_
    refine x_icmpN_ge C (by omega) (by omega) d_m_tellRow_9 (fun z0 => ?_) (fun z0 => ?_)
    · refine x_iconst C (nI 0) rfl d_m_tellRow_27 ?_
      refine x_istore_n C 2 rfl rfl rfl d_m_tellRow_28 ?_
      dsimp only [xst]
      refine x_forS (fun k τ => Wx E 29 [.ref (q 0), .ref (q 26), .int (nI k)] [] τ) (fun k τ => frm [16, 25, 26] σ τ ∧ mk0 (τ 26) (wx N i k) ∧ ∀ j, j < k → τ 16 j = nI (wrow N i j)) i (fun k τ hk hI ih => ?_) 0 (va_up σ 26 f) (Nat.zero_le _) ⟨(frm.rf _ σ).up (by decide) _, fun p hp => hI0 p (by omega), fun j hj => absurd hj (by omega)⟩
      obtain ⟨f1, x1, r1⟩ := hI
      have la1 : τ 8 0 = nI i := by rw [f1 8 (by decide)]; exact hla
      refine x_iload_n C rfl d_m_tellRow_29 ?_
      refine x_aload_n C rfl d_m_tellRow_30 ?_
      refine x_getv C K 8 rfl rfl la1 d_m_tellRow_31 ?_
      refine x_icmpN_ge C (by omega) (by omega) d_m_tellRow_34 (fun z => ?_) (fun z => ?_)
      · have e : k = i := by omega
        subst e
        exact R ⟨f1, r1⟩ d_m_tellRow_120
      · obtain ⟨o1, o2, o3⟩ := wx_ok hN e1 e2 k hk
        have ej : i - k = (i - k - 1) + 1 := by omega
        rw [ej] at o1
        obtain ⟨t1, t2, t3⟩ := tOf_spec hN o1 (o2 (i - k - 1) (by omega))
        have ew : wrow N i k = tOf N (i - k - 1) (wx N i k) := rfl
        rw [← ew] at t1 t2 t3
        refine x_iconst C (nI 0) rfl d_m_tellRow_37 ?_
        refine x_istore_n C 3 rfl rfl rfl d_m_tellRow_38 ?_
        dsimp only [xst]
        refine x_forS (fun t τ => Wx E 39 [.ref (q 0), .ref (q 26), .int (nI k), .int (nI t)] [] τ) (fun t τ => frm [16, 25, 26] σ τ ∧ mk0 (τ 26) (wx N i k) ∧ ∀ j, j < k → τ 16 j = nI (wrow N i j)) (wrow N i k) (fun t τ ht hI2 ih2 => ?_) 0 τ (Nat.zero_le _) ⟨f1, x1, r1⟩
        obtain ⟨f2, x2, r2⟩ := hI2
        have hT : RM N τ := h.fr f2 (by decide)
        have la2 : τ 8 0 = nI i := by rw [f2 8 (by decide)]; exact hla
        refine x_aload_n C rfl d_m_tellRow_39 ?_
        refine x_aload_n C rfl d_m_tellRow_40 ?_
        refine x_iload_n C rfl d_m_tellRow_41 ?_
        refine x_aload_n C rfl d_m_tellRow_42 ?_
        refine x_getv C K 8 rfl rfl la2 d_m_tellRow_43 ?_
        refine x_iload_n C rfl d_m_tellRow_46 ?_
        refine x_isubN C (by omega) d_m_tellRow_47 ?_
        refine x_iconst C (nI 1) rfl d_m_tellRow_48 ?_
        refine x_isubN C (by omega) d_m_tellRow_49 ?_
        refine x_callVi C K s_m_112 (c_m_leads (e_l E) (t := t) (j := i - k - 1) (x := wx N i k) hN hT (by omega) (by omega) x2 (fun p => by have := o3 p; omega) (hl _ (by omega)) (by rw [f2 11 (by decide)]; exact hb _ (by omega)) (by rw [f2 10 (by decide)]; exact hc _ (by omega))) rfl rfl rfl rfl rfl rfl d_m_tellRow_50 (fun r σ' hr => ?_)
        obtain ⟨rfl, s1⟩ := hr
        rw [decide_eq_true (show t < nT N by omega), Bool.true_and]
        have f3 := f2.tr s1 (by decide)
        have x3 : mk0 (σ' 26) (wx N i k) := by rw [s1 26 (by decide)]; exact x2
        have r3 : ∀ j, j < k → σ' 16 j = nI (wrow N i j) := by rw [s1 16 (by decide)]; exact r2
        have hT3 : RM N σ' := h.fr f3 (by decide)
        refine x_ifB_ne C d_m_tellRow_53 (fun z2 => ?_) (fun z2 => ?_)
        · have et : t = wrow N i k := by
            rcases Nat.lt_or_ge t (wrow N i k) with h1 | h1
            · rw [t3 t h1] at z2; cases z2
            · omega
          subst et
          simp only [ldB, Bool.and_eq_true] at t2
          have hle := leM_iff.mp t2.1
          refine x_aload_n C rfl d_m_tellRow_62 ?_
          refine x_geta C K 16 rfl (by decide) d_m_tellRow_63 ?_
          refine x_iload_n C rfl d_m_tellRow_66 ?_
          refine x_iload_n C rfl d_m_tellRow_67 ?_
          refine x_iast C K (k := 16) (N := 60) rfl rfl (by omega) d_m_tellRow_68 ?_
          refine x_iconst C (nI 0) rfl d_m_tellRow_69 ?_
          refine x_istore C rfl rfl d_m_tellRow_70 ?_
          dsimp only [xst]
          have key2 := x_forS (fun p f => Wx E 72 [.ref (q 0), .ref (q 26), .int (nI k), .int (nI (wrow N i k)), .int (nI p)] [] (va_up (va_up σ' 16 (upd (σ' 16) k (nI (wrow N i k)))) 26 f)) (fun p f => (∀ p', p' < p → f p' = nI (stM N (wrow N i k) (wx N i k) p')) ∧ ∀ p', p ≤ p' → p' < 5 → f p' = nI (wx N i k p')) 5 (fun p f hp hI4 ih4 => ?_) 0 (σ' 26) (Nat.zero_le _) ⟨fun p hp => absurd hp (by omega), fun p _ hp => x3 p hp⟩
          · rw [show va_up (va_up σ' 16 (upd (σ' 16) k (nI (wrow N i k)))) 26 (σ' 26) = va_up σ' 16 (upd (σ' 16) k (nI (wrow N i k))) from xueq _ 26] at key2
            exact key2
          · refine x_iload C rfl d_m_tellRow_72 ?_
            refine x_iconst C (nI 5) rfl d_m_tellRow_74 ?_
            refine x_icmpN_ge C (by omega) (by omega) d_m_tellRow_75 (fun z4 => ?_) (fun z4 => ?_)
            · refine x_iincN (b := 1) C rfl rfl d_m_tellRow_114 ?_
              dsimp only [xst]
              refine x_goto C d_m_tellRow_117 ?_
              refine x_take 3 ?_
              refine ih _ z ⟨(f3.up (by decide) _).up (by decide) _, fun p' hp' => hI4.1 p' (by omega), fun j hj => ?_⟩
              show upd (σ' 16) k (nI (wrow N i k)) j = _
              by_cases e : j = k
              · rw [e, upd_s]
              · rw [upd_n _ _ e]; exact r3 j (by omega)
            · refine x_aload_n C rfl d_m_tellRow_78 ?_
              refine x_iload C rfl d_m_tellRow_79 ?_
              refine x_dup2 C rfl rfl d_m_tellRow_81 ?_
              refine x_iald C K (k := 26) (N := 5) rfl rfl (by omega) (hI4.2 p (by omega) (by omega)) d_m_tellRow_82 ?_
              refine x_aload_n C rfl d_m_tellRow_83 ?_
              refine x_geta C K 5 rfl (by decide) d_m_tellRow_84 ?_
              refine x_iconst C (nI 5) rfl d_m_tellRow_87 ?_
              refine x_iload_n C rfl d_m_tellRow_88 ?_
              refine x_imulN C d_m_tellRow_89 ?_
              refine x_iload C rfl d_m_tellRow_90 ?_
              refine x_iaddN C d_m_tellRow_92 ?_
              refine x_iald C K (k := 5) (N := 30) rfl rfl (by omega) (hT3.2.2.2.2.2 (wrow N i k) p (by omega) (by omega)) d_m_tellRow_93 ?_
              refine x_aload_n C rfl d_m_tellRow_94 ?_
              refine x_geta C K 4 rfl (by decide) d_m_tellRow_95 ?_
              refine x_iconst C (nI 5) rfl d_m_tellRow_98 ?_
              refine x_iload_n C rfl d_m_tellRow_99 ?_
              refine x_imulN C d_m_tellRow_100 ?_
              refine x_iload C rfl d_m_tellRow_101 ?_
              refine x_iaddN C d_m_tellRow_103 ?_
              refine x_iald C K (k := 4) (N := 30) rfl rfl (by omega) (hT3.2.2.2.2.1 (wrow N i k) p (by omega) (by omega)) d_m_tellRow_104 ?_
              refine x_isub C d_m_tellRow_105 ?_
              refine x_iadd C d_m_tellRow_106 ?_
              refine x_iast C K (k := 26) (N := 5) rfl rfl (by omega) d_m_tellRow_107 ?_
              refine x_iincN (b := 1) C rfl rfl d_m_tellRow_108 ?_
              dsimp only [xst]
              refine x_goto C d_m_tellRow_111 ?_
              rw [nI_fire (hle p (by omega)), xuu, xus]
              refine ih4 _ z4 ⟨fun p' hp' => ?_, fun p' h1 h2 => ?_⟩
              · by_cases e : p' = p
                · rw [e, upd_s]; rfl
                · rw [upd_n _ _ e]; exact hI4.1 p' (by omega)
              · rw [upd_n _ _ (by omega)]; exact hI4.2 p' (by omega) h2
        · have hlt : t < wrow N i k := by
            rcases Nat.lt_or_ge t (wrow N i k) with h1 | h1
            · exact h1
            · have : t = wrow N i k := by omega
              rw [this, t2] at z2
              cases z2
          refine x_iincN (b := 1) C rfl rfl d_m_tellRow_56 ?_
          dsimp only [xst]
          refine x_goto C d_m_tellRow_59 ?_
          exact ih2 σ' hlt ⟨f3, x3, r3⟩
    · refine x_aload_n C rfl d_m_tellRow_12 ?_
      refine x_iload_n C rfl d_m_tellRow_13 ?_
      refine x_aload_n C rfl d_m_tellRow_14 ?_
      refine x_geta C K 1 rfl (by decide) d_m_tellRow_15 ?_
      refine x_iload_n C rfl d_m_tellRow_18 ?_
      refine x_iald C K (k := 1) (N := 5) rfl rfl (by omega) (h.2.2.1 p (by omega)) d_m_tellRow_19 ?_
      refine x_iast C K (k := 26) (N := 5) rfl rfl (by omega) d_m_tellRow_20 ?_
      refine x_iincN (b := 1) C rfl rfl d_m_tellRow_21 ?_
      dsimp only [xst]
      refine x_goto C d_m_tellRow_24 ?_
      rw [xuu, xus]
      refine ih0 _ z0 (fun p' hp' => ?_)
      by_cases e : p' = p
      · rw [e, upd_s]
      · rw [upd_n _ _ e]; exact hI0 p' (by omega)
/-- what rounds leaves, of the model -/
def RMr (N : XNet) (i : Nat) (σ : XS) : Prop := σ 8 0 = nI i ∧ σ 7 0 = rres N i ∧ (∀ j, j ≤ i → σ 10 j = nI (rnd N j).length) ∧ (rres N i = nI 1 → ∀ k, k < i → σ 16 k = nI (wrow N i k))
theorem rres_2 {N : XNet} {i : Nat} : ¬ rres N i = nI 2 := by
  unfold rres
  split
  · decide
  · split <;> decide
theorem c_m_rounds (l : Launch) {σ : XS} {N : XNet} (hN : NOK N) (h : RM N σ) : XCi true l y_m_rounds b_m_rounds 4 .int 4 130 (fun q => [.ref (q 0)]) σ (fun r σ' => ∃ i, isEnd N i ∧ r = rres N i ∧ frm [7, 8, 9, 10, 11, 12, 13, 14, 15, 16, 25, 26] σ σ' ∧ RMr N i σ') := by
  refine XCi.of (by decide) rfl (fun _ => rfl) (fun _ => rfl) (fun E q cA hEl C K R => ?_)
  subst hEl
  refine x_aload_n C rfl d_m_rounds_0 ?_
  refine x_aload_n C rfl d_m_rounds_1 ?_
  refine x_getv C K 0 rfl rfl h.1 d_m_rounds_2 ?_
  refine x_puti C K 9 rfl rfl rfl d_m_rounds_5 ?_
  refine x_aload_n C rfl d_m_rounds_8 ?_
  refine x_iconst C (nI 0) rfl d_m_rounds_9 ?_
  refine x_puti C K 13 rfl rfl rfl d_m_rounds_10 ?_
  refine x_iconst C (nI 0) rfl d_m_rounds_13 ?_
  refine x_istore_n C 1 rfl rfl rfl d_m_rounds_14 ?_
  dsimp only [xst]
  have fr0 : frm [7, 8, 9, 10, 11, 12, 13, 14, 15, 16, 25, 26] σ (va_up (va_up σ 9 (fun _ => nI (nP N))) 13 (fun _ => nI 0)) := ((frm.rf _ σ).up (by decide) _).up (by decide) _
  have h0 : RM N (va_up (va_up σ 9 (fun _ => nI (nP N))) 13 (fun _ => nI 0)) := h.fr fr0 (by decide)
  have c0 : (va_up (va_up σ 9 (fun _ => nI (nP N))) 13 (fun _ => nI 0)) 13 0 = nI 0 := rfl
  generalize va_up (va_up σ 9 (fun _ => nI (nP N))) 13 (fun _ => nI 0) = σ0 at fr0 h0 c0 ⊢
  have key := x_forS (fun i f => Wx E 15 [.ref (q 0), .int (nI i)] [] (va_up σ0 25 f)) (fun i f => ∀ p, p < i → f p = nI (ngo N p)) 5 (fun i f hi hI ih => ?_) 0 (σ0 25) (Nat.zero_le _) (fun p hp => absurd hp (by omega))
  · rw [xueq] at key
    exact key
  · have h5 := hN.1
    refine x_iload_n C rfl d_m_rounds_15 ?_
    refine x_iconst C (nI 5) rfl d_m_rounds_16 ?_
    refine x_icmpN_ge C (by omega) (by omega) d_m_rounds_17 (fun z => ?_) (fun z => ?_)
    · refine x_aload_n C rfl d_m_rounds_50 ?_
      refine x_callVv C K s_m_90 (c_m_takeIn (e_l E) (P := nP N) (B := 20) (w := ngo N) (A := []) (by omega) (fun p hp => hI p (by omega)) ⟨hN.2.2.2.1, hN.2.2.2.2.2.2.2.1⟩ (fun k m hm => by simp at hm) (fun m hm => by simp at hm) (by simp) c0) rfl rfl rfl rfl rfl rfl d_m_rounds_51 (fun σ' hs => ?_)
      obtain ⟨s1, s2, s3⟩ := hs
      have eA : addL [] (ngo N) = rnd N 0 := rfl
      rw [eA] at s2 s3
      refine x_iconst C (nI 0) rfl d_m_rounds_54 ?_
      refine x_istore_n C 1 rfl rfl rfl d_m_rounds_55 ?_
      dsimp only [xst]
      refine x_iconst C (nI 2) rfl d_m_rounds_56 ?_
      refine x_istore_n C 2 rfl rfl rfl d_m_rounds_57 ?_
      dsimp only [xst]
      refine x_forS (fun i τ => Wx E 58 [.ref (q 0), .int (nI i), .int (nI 2)] [] τ) (fun i τ => frm [7, 8, 9, 10, 11, 12, 13, 14, 15, 16, 25, 26] σ τ ∧ lsAt (τ 12) 0 (rnd N i) ∧ τ 13 0 = nI (rnd N i).length ∧ (∀ j, j < i → τ 10 j = nI (rnd N j).length) ∧ (∀ j, j < i → lsAt (τ 11) (1000 * j) (rnd N j)) ∧ (∀ j, j < i → stop N j = false) ∧ (rnd N i).length ≤ 1400 ∧ (0 < i → lsAt (τ 14) 0 (rnd N (i - 1)) ∧ τ 15 0 = nI (rnd N (i - 1)).length)) 60 (fun i τ hi hI ih => ?_) 0 σ' (by omega) ⟨(fr0.up (by decide) f).tr s1 (by decide), s2, s3, fun j hj => absurd hj (by omega), fun j hj => absurd hj (by omega), fun j hj => absurd hj (by omega), Nat.le_of_ble_eq_true rfl, fun hh => absurd hh (by omega)⟩
      obtain ⟨f1, l1, c1, k1, b1, n1, ln, bf⟩ := hI
      -- behind the loop
      have out : ∀ τ' : XS, frm [7, 8, 9, 10, 11, 12, 13, 14, 15, 16, 25, 26] σ τ' → τ' 8 0 = nI i → (∀ j, j ≤ i → τ' 10 j = nI (rnd N j).length) → (∀ j, j < i → lsAt (τ' 11) (1000 * j) (rnd N j)) → isEnd N i → Wx E 58 [.ref (q 0), .int (nI i), .int (rres N i)] [] τ' := by
        intro τ' g1 g3 cnt bas g5
        have hT' : RM N τ' := h.fr g1 (by decide)
        refine x_iload_n C rfl d_m_rounds_58 ?_
        refine x_iconst C (nI 2) rfl d_m_rounds_59 ?_
        refine x_icmp_ne C d_m_rounds_60 (fun _ => ?_) (fun z2 => absurd z2 rres_2)
        refine x_aload_n C rfl d_m_rounds_227 ?_
        refine x_iload_n C rfl d_m_rounds_228 ?_
        refine x_puti C K 7 rfl rfl rfl d_m_rounds_229 ?_
        refine x_aload_n C rfl d_m_rounds_232 ?_
        refine x_getv C K 7 rfl rfl (show _ = rres N i from rfl) d_m_rounds_233 ?_
        refine x_iconst C (nI 1) rfl d_m_rounds_236 ?_
        refine x_icmp_ne C d_m_rounds_237 (fun z2 => ?_) (fun z2 => ?_)
        · refine x_aload_n C rfl d_m_rounds_244 ?_
          refine x_getv C K 7 rfl rfl (show _ = rres N i from rfl) d_m_rounds_245 ?_
          exact R rfl ⟨i, g5, rfl, g1.up (by decide) _, g3, rfl, cnt, fun h => absurd h z2⟩ d_m_rounds_248
        · have hf := rres_1.mp z2
          have nst : ∀ j, j < i → fin N j = false ∧ (rnd N j).length ≤ 200 := fun j hj => by
            have := nstop (n1 j hj)
            exact ⟨this.1, this.2.1⟩
          refine x_aload_n C rfl d_m_rounds_240 ?_
          refine x_callVv C K s_m_109 (c_m_tellRow (e_l E) (i := i) hN hT' hi hf (fun j hj => (nst j hj).1) (fun j hj => (nst j hj).2) bas (fun j hj => cnt j (by omega)) g3) rfl rfl rfl rfl rfl rfl d_m_rounds_241 (fun σ2 hs2 => ?_)
          obtain ⟨u1, u2⟩ := hs2
          have g4' : σ2 7 0 = rres N i := by rw [u1 7 (by decide)]; rfl
          refine x_aload_n C rfl d_m_rounds_244 ?_
          refine x_getv C K 7 rfl rfl g4' d_m_rounds_245 ?_
          refine R rfl ⟨i, g5, rfl, (g1.up (by decide) _).tr u1 (by decide), ?_, g4', fun j hj => ?_, fun _ => u2⟩ d_m_rounds_248
          · rw [u1 8 (by decide)]; exact g3
          · rw [u1 10 (by decide)]; exact cnt j hj
      refine x_iload_n C rfl d_m_rounds_58 ?_
      refine x_iconst C (nI 2) rfl d_m_rounds_59 ?_
      refine x_icmpN_ne C (by omega) (by omega) d_m_rounds_60 (fun z2 => absurd rfl z2) (fun _ => ?_)
      refine x_aload_n C rfl d_m_rounds_63 ?_
      refine x_geta C K 10 rfl (by decide) d_m_rounds_64 ?_
      refine x_iload_n C rfl d_m_rounds_67 ?_
      refine x_aload_n C rfl d_m_rounds_68 ?_
      refine x_getv C K 13 rfl rfl c1 d_m_rounds_69 ?_
      refine x_iast C K (k := 10) (N := 61) rfl rfl (by omega) d_m_rounds_72 ?_
      refine x_iconst C (nI 0) rfl d_m_rounds_73 ?_
      refine x_istore_n C 3 rfl rfl rfl d_m_rounds_74 ?_
      dsimp only [xst]
      -- the round is kept
      rw [show va_up τ 10 (upd (τ 10) i (nI (rnd N i).length)) = va_up (va_up τ 10 (upd (τ 10) i (nI (rnd N i).length))) 11 (τ 11) from (xueq (va_up τ 10 (upd (τ 10) i (nI (rnd N i).length))) 11).symm]
      refine x_forS (fun k f => Wx E 75 [.ref (q 0), .int (nI i), .int (nI 2), .int (nI k)] [] (va_up (va_up τ 10 (upd (τ 10) i (nI (rnd N i).length))) 11 f)) (fun k f => (∀ j, j < 1000 * i → f j = τ 11 j) ∧ ∀ j, j < k → j < 5 * (rnd N i).length → f (1000 * i + j) = τ 12 j) 1000 (fun k f hk hI2 ih2 => ?_) 0 (τ 11) (by omega) ⟨fun _ _ => rfl, fun j hj => absurd hj (by omega)⟩
      refine x_iload_n C rfl d_m_rounds_75 ?_
      refine x_sipush C (nI 1000) (by decide) d_m_rounds_76 ?_
      refine x_icmpN_ge C (by omega) (by omega) d_m_rounds_79 (fun z2 => ?_) (fun z2 => ?_)
      · have fA : frm [7, 8, 9, 10, 11, 12, 13, 14, 15, 16, 25, 26] σ (va_up (va_up (va_up τ 10 (upd (τ 10) i (nI (rnd N i).length))) 11 f) 8 (fun _ => nI i)) := ((f1.up (by decide) _).up (by decide) _).up (by decide) _
        refine x_aload_n C rfl d_m_rounds_120 ?_
        refine x_iload_n C rfl d_m_rounds_121 ?_
        refine x_puti C K 8 rfl rfl rfl d_m_rounds_122 ?_
        refine x_aload_n C rfl d_m_rounds_125 ?_
        generalize hA : va_up (va_up (va_up τ 10 (upd (τ 10) i (nI (rnd N i).length))) 11 f) 8 (fun _ => nI i) = τa at fA ⊢
        have a8 : τa 8 0 = nI i := by rw [← hA]; rfl
        have a10 : ∀ j, j ≤ i → τa 10 j = nI (rnd N j).length := fun j hj => by
          rw [← hA]
          show upd (τ 10) i _ j = _
          by_cases e : j = i
          · rw [e, upd_s]
          · rw [upd_n _ _ e]; exact k1 j (by omega)
        have a11 : ∀ j, j < i → lsAt (τa 11) (1000 * j) (rnd N j) := fun j hj => by
          rw [← hA]
          have := (nstop (n1 j hj)).2.1
          exact lsAt_congr (b1 j hj) (fun x _ hx => hI2.1 x (by omega))
        have a11' : (rnd N i).length ≤ 200 → lsAt (τa 11) (1000 * i) (rnd N i) := fun hle => by
          rw [← hA]
          intro k m hm p hp
          have hk : k < (rnd N i).length := (List.getElem?_eq_some_iff.mp hm).1
          show f (1000 * i + 5 * k + p) = _
          rw [Nat.add_assoc, hI2.2 (5 * k + p) (by omega) (by omega)]
          have := l1 k m hm p hp
          rw [Nat.zero_add] at this
          exact this
        have a12 : lsAt (τa 12) 0 (rnd N i) := by rw [← hA]; exact l1
        have a13 : τa 13 0 = nI (rnd N i).length := by rw [← hA]; exact c1
        have abf : 0 < i → lsAt (τa 14) 0 (rnd N (i - 1)) ∧ τa 15 0 = nI (rnd N (i - 1)).length := by rw [← hA]; exact bf
        have hT : RM N τa := h.fr fA (by decide)
        -- the loop ends here
        have stopAt : stop N i = true → Wx E 58 [.ref (q 0), .int (nI i), .int (rres N i)] [] τa := fun g5 => out τa fA a8 a10 a11 ⟨g5, n1⟩
        refine x_callVi C K s_m_99 (c_m_isFirstIn (e_l E) (P := nP N) (B := 20 + 5 * i) (w := nfi N) (A := rnd N i) (by omega) hT.2.2.1 (fun p _ => by have := hN.2.2.1 p; omega) a12 (okL.rnd hN i) (by omega) a13) rfl rfl rfl rfl rfl rfl d_m_rounds_126 (fun r σ2 hr => ?_)
        obtain ⟨rfl, rfl⟩ := hr
        have ef : anyLe (rnd N i) (nfi N) = fin N i := rfl
        rw [ef]
        refine x_ifB_eq C d_m_rounds_129 (fun zf => ?_) (fun zf => ?_)
        · refine x_aload_n C rfl d_m_rounds_137 ?_
          refine x_getv C K 13 rfl rfl a13 d_m_rounds_138 ?_
          refine x_sipush C (nI 200) (by decide) d_m_rounds_141 ?_
          refine x_icmpN_le C (by omega) (by omega) d_m_rounds_144 (fun z3 => ?_) (fun z3 => ?_)
          · have go168 : mor N i = true → Wx E 168 [.ref (q 0), .int (nI i), .int (nI 2), .int (nI k)] [] τa := by
              intro hm
              refine x_iload_n C rfl d_m_rounds_168 ?_
              refine x_bipush C (nI 60) (by decide) d_m_rounds_169 ?_
              refine x_icmpN_ne C (by omega) (by omega) d_m_rounds_171 (fun z4 => ?_) (fun z4 => ?_)
              · have hlt : i < 60 := by omega
                have hns : stop N i = false := by
                  simp only [stop, zf, hm, Bool.or_eq_false_iff, decide_eq_false_iff_not]
                  exact ⟨⟨⟨trivial, by omega⟩, rfl⟩, by omega⟩
                refine x_iconst C (nI 0) rfl d_m_rounds_179 ?_
                refine x_istore_n C 3 rfl rfl rfl d_m_rounds_180 ?_
                dsimp only [xst]
                have key3 := x_forS (fun k f => Wx E 181 [.ref (q 0), .int (nI i), .int (nI 2), .int (nI k)] [] (va_up τa 14 f)) (fun k f => ∀ j, j < k → f j = τa 12 j) (5 * (rnd N i).length) (fun k f hk hI5 ih5 => ?_) 0 (τa 14) (Nat.zero_le _) (fun j hj => absurd hj (by omega))
                · rw [xueq] at key3
                  exact key3
                · refine x_iload_n C rfl d_m_rounds_181 ?_
                  refine x_iconst C (nI 5) rfl d_m_rounds_182 ?_
                  refine x_aload_n C rfl d_m_rounds_183 ?_
                  refine x_getv C K 13 rfl rfl a13 d_m_rounds_184 ?_
                  refine x_imulN C d_m_rounds_187 ?_
                  refine x_icmpN_ge C (by omega) (by omega) d_m_rounds_188 (fun z5 => ?_) (fun z5 => ?_)
                  · refine x_aload_n C rfl d_m_rounds_209 ?_
                    refine x_aload_n C rfl d_m_rounds_210 ?_
                    refine x_getv C K 13 rfl rfl a13 d_m_rounds_211 ?_
                    refine x_puti C K 15 rfl rfl rfl d_m_rounds_214 ?_
                    refine x_aload_n C rfl d_m_rounds_217 ?_
                    have fB : frm [7, 8, 9, 10, 11, 12, 13, 14, 15, 16, 25, 26] σ (va_up (va_up τa 14 f) 15 (fun _ => nI (rnd N i).length)) := (fA.up (by decide) _).up (by decide) _
                    have bB : lsAt f 0 (rnd N i) := lsAt_congr a12 (fun j _ hj => hI5 j (by omega))
                    refine x_callVv C K s_m_106 (c_m_step (e_l E) (N := N) (B := 20 + 5 * i) (A := rnd N i) hN (h.fr fB (by decide)) z3 bB rfl a12 (okL.rnd hN i) (by omega) a13) rfl rfl rfl rfl rfl rfl d_m_rounds_218 (fun σ3 hs3 => ?_)
                    obtain ⟨v1, v2, v3⟩ := hs3
                    refine x_iincN (b := 1) C rfl rfl d_m_rounds_221 ?_
                    dsimp only [xst]
                    refine x_goto C d_m_rounds_224 ?_
                    refine x_take 3 ?_
                    have e1 : (stp N (rnd N i)).1 = rnd N (i + 1) := rfl
                    rw [e1] at v2 v3
                    refine ih σ3 hlt ⟨fB.tr v1 (by decide), v2, v3, fun j hj => ?_, fun j hj => ?_, fun j hj => ?_, ?_, fun _ => ?_⟩
                    · rw [v1 10 (by decide)]; exact a10 j (by omega)
                    · rw [v1 11 (by decide)]
                      by_cases e : j = i
                      · rw [e]; exact a11' z3
                      · exact a11 j (by omega)
                    · by_cases e : j = i
                      · rw [e]; exact hns
                      · exact n1 j (by omega)
                    · have := gK_len N (rnd N i) (rnd N i, false) (rnd N i).length
                      have h6 := hN.2.1
                      have m1 : (rnd N i).length * nT N ≤ 200 * 6 := Nat.mul_le_mul z3 h6
                      show (gK N (rnd N i) (rnd N i).length (rnd N i, false)).1.length ≤ 1400
                      have e2 : ((rnd N i, false) : LS2).1.length = (rnd N i).length := rfl
                      omega
                    · rw [v1 14 (by decide), v1 15 (by decide)]
                      exact ⟨bB, rfl⟩
                  · refine x_aload_n C rfl d_m_rounds_191 ?_
                    refine x_geta C K 14 rfl (by decide) d_m_rounds_192 ?_
                    refine x_iload_n C rfl d_m_rounds_195 ?_
                    refine x_aload_n C rfl d_m_rounds_196 ?_
                    refine x_geta C K 12 rfl (by decide) d_m_rounds_197 ?_
                    refine x_iload_n C rfl d_m_rounds_200 ?_
                    refine x_iald C K (k := 12) (N := 7500) rfl rfl (by omega) rfl d_m_rounds_201 ?_
                    refine x_iast C K (k := 14) (N := 7500) rfl rfl (by omega) d_m_rounds_202 ?_
                    refine x_iincN (b := 1) C rfl rfl d_m_rounds_203 ?_
                    dsimp only [xst]
                    refine x_goto C d_m_rounds_206 ?_
                    rw [xuu, xus]
                    refine ih5 _ z5 (fun j hj => ?_)
                    by_cases e : j = k
                    · rw [e, upd_s]; rfl
                    · rw [upd_n _ _ e]; exact hI5 j (by omega)
              · have er : rres N i = -1 := by rw [rres, zf, if_neg (by decide), if_neg (fun hh => by rw [hm] at hh; cases hh.2)]
                refine x_iconst C (-1) rfl d_m_rounds_174 ?_
                refine x_istore_n C 2 rfl rfl rfl d_m_rounds_175 ?_
                dsimp only [xst]
                refine x_goto C d_m_rounds_176 ?_
                refine x_take 3 ?_
                have := stopAt (by simp [stop, z4])
                rw [er] at this
                exact this
            refine x_iload_n C rfl d_m_rounds_152 ?_
            refine x_ifN_le C (by omega) d_m_rounds_153 (fun z4 => ?_) (fun z4 => ?_)
            · exact go168 (by rw [z4]; rfl)
            · obtain ⟨w1, w2⟩ := abf z4
              obtain ⟨i', rfl⟩ : ∃ i', i = i' + 1 := ⟨i - 1, by omega⟩
              rw [show i' + 1 - 1 = i' by omega] at w1 w2
              have l2 : (rnd N i').length ≤ 200 := (nstop (n1 i' (by omega))).2.1
              refine x_aload_n C rfl d_m_rounds_156 ?_
              refine x_callVi C K s_m_103 (c_m_isSame (e_l E) (P := nP N) (B := 20 + 5 * (i' + 1)) (A := rnd N i') (D := rnd N (i' + 1)) (by omega) w1 ((okL.rnd hN i').mono (by omega)) (by omega) w2 a12 (okL.rnd hN (i' + 1)) (by omega) a13) rfl rfl rfl rfl rfl rfl d_m_rounds_157 (fun r σ2 hr => ?_)
              obtain ⟨rfl, rfl⟩ := hr
              have es : sameL (rnd N i') (rnd N (i' + 1)) = !mor N (i' + 1) := same_iff N (rnd N i')
              rw [es]
              refine x_ifB_eq C d_m_rounds_160 (fun z5 => ?_) (fun z5 => ?_)
              · exact go168 (by simpa using z5)
              · have z6 : mor N (i' + 1) = false := by simpa using z5
                have er : rres N (i' + 1) = nI 0 := by rw [rres, zf, if_neg (by decide), if_pos ⟨z3, z6⟩]
                refine x_iconst C (nI 0) rfl d_m_rounds_163 ?_
                refine x_istore_n C 2 rfl rfl rfl d_m_rounds_164 ?_
                dsimp only [xst]
                refine x_goto C d_m_rounds_165 ?_
                refine x_take 3 ?_
                have := stopAt (by simp [stop, z6])
                rw [er] at this
                exact this
          · have er : rres N i = -1 := by rw [rres, zf, if_neg (by decide), if_neg (fun hh => by omega)]
            refine x_iconst C (-1) rfl d_m_rounds_147 ?_
            refine x_istore_n C 2 rfl rfl rfl d_m_rounds_148 ?_
            dsimp only [xst]
            refine x_goto C d_m_rounds_149 ?_
            refine x_take 3 ?_
            have := stopAt (by simp [stop, z3])
            rw [er] at this
            exact this
        · have er : rres N i = nI 1 := rres_1.mpr zf
          refine x_iconst C (nI 1) rfl d_m_rounds_132 ?_
          refine x_istore_n C 2 rfl rfl rfl d_m_rounds_133 ?_
          dsimp only [xst]
          refine x_goto C d_m_rounds_134 ?_
          refine x_take 3 ?_
          have := stopAt (by simp [stop, zf])
          rw [er] at this
          exact this
      · have cont : ∀ v : Int32, (k < 5 * (rnd N i).length → v = τ 12 k) → Wx E 113 [.ref (q 0), .int (nI i), .int (nI 2), .int (nI k)] [.int v, .int (nI (1000 * i + k)), .ref (q 11)] (va_up (va_up τ 10 (upd (τ 10) i (nI (rnd N i).length))) 11 f) := by
          intro v hv
          refine x_iast C K (k := 11) (N := 61000) rfl rfl (by omega) d_m_rounds_113 ?_
          refine x_iincN (b := 1) C rfl rfl d_m_rounds_114 ?_
          dsimp only [xst]
          refine x_goto C d_m_rounds_117 ?_
          rw [xuu, xus]
          refine ih2 _ z2 ⟨fun j hj => ?_, fun j hj hj2 => ?_⟩
          · rw [upd_n _ _ (by omega)]; exact hI2.1 j hj
          · by_cases e : j = k
            · rw [e, upd_s]; exact hv (by omega)
            · rw [upd_n _ _ (by omega)]; exact hI2.2 j (by omega) hj2
        refine x_aload_n C rfl d_m_rounds_82 ?_
        refine x_geta C K 11 rfl (by decide) d_m_rounds_83 ?_
        refine x_sipush C (nI 1000) (by decide) d_m_rounds_86 ?_
        refine x_iload_n C rfl d_m_rounds_89 ?_
        refine x_imulN C d_m_rounds_90 ?_
        refine x_iload_n C rfl d_m_rounds_91 ?_
        refine x_iaddN C d_m_rounds_92 ?_
        refine x_iload_n C rfl d_m_rounds_93 ?_
        refine x_iconst C (nI 5) rfl d_m_rounds_94 ?_
        refine x_aload_n C rfl d_m_rounds_95 ?_
        refine x_getv C K 13 rfl rfl c1 d_m_rounds_96 ?_
        refine x_imulN C d_m_rounds_99 ?_
        refine x_icmpN_ge C (by omega) (by omega) d_m_rounds_100 (fun z3 => ?_) (fun z3 => ?_)
        · refine x_iconst C (nI 0) rfl d_m_rounds_112 ?_
          exact cont _ (fun hh => absurd hh (by omega))
        · refine x_aload_n C rfl d_m_rounds_103 ?_
          refine x_geta C K 12 rfl (by decide) d_m_rounds_104 ?_
          refine x_iload_n C rfl d_m_rounds_107 ?_
          refine x_iald C K (k := 12) (N := 7500) rfl rfl (by omega) rfl d_m_rounds_108 ?_
          refine x_goto C d_m_rounds_109 ?_
          exact cont _ (fun _ => rfl)
    · have cont : Wx E 43 [.ref (q 0), .int (nI i)] [.int (nI (ngo N i)), .int (nI i), .ref (q 25)] (va_up σ0 25 f) := by
        refine x_iast C K (k := 25) (N := 5) rfl rfl (by omega) d_m_rounds_43 ?_
        refine x_iincN (b := 1) C rfl rfl d_m_rounds_44 ?_
        dsimp only [xst]
        refine x_goto C d_m_rounds_47 ?_
        rw [xuu, xus]
        refine ih _ z (fun p hp => ?_)
        by_cases e : p = i
        · rw [e, upd_s]
        · rw [upd_n _ _ e]; exact hI p (by omega)
      refine x_aload_n C rfl d_m_rounds_20 ?_
      refine x_geta C K 25 rfl (by decide) d_m_rounds_21 ?_
      refine x_iload_n C rfl d_m_rounds_24 ?_
      refine x_iload_n C rfl d_m_rounds_25 ?_
      refine x_aload_n C rfl d_m_rounds_26 ?_
      refine x_getv C K 0 rfl rfl h0.1 d_m_rounds_27 ?_
      refine x_icmpN_ge C (by omega) (by omega) d_m_rounds_30 (fun z2 => ?_) (fun z2 => ?_)
      · refine x_iconst C (nI 0) rfl d_m_rounds_42 ?_
        rw [hN.2.2.2.2.2.2.2.1 i z2] at cont
        exact cont
      · refine x_aload_n C rfl d_m_rounds_33 ?_
        refine x_geta C K 2 rfl (by decide) d_m_rounds_34 ?_
        refine x_iload_n C rfl d_m_rounds_37 ?_
        refine x_iald C K (k := 2) (N := 5) rfl rfl (by omega) (h0.2.2.2.1 i (by omega)) d_m_rounds_38 ?_
        refine x_goto C d_m_rounds_39 ?_
        exact cont
end
section
/-! what is asked of the rounds -/
abbrev XRR : Type := Option (XNet × Nat)
def RXq (r : XRR) (σ : XS) : Prop := match r with
  | none => σ 9 0 = -1 ∧ σ 10 0 = -1
  | some (N, i) => i ≤ 60 ∧ RXr N i σ
def RMq (r : XRR) (σ : XS) : Prop := match r with
  | none => σ 7 0 = nI 2
  | some (N, i) => i ≤ 60 ∧ RMr N i σ
def stR (r : XRR) : Int32 := match r with
  | none => -1
  | some (N, i) => if rres N i = nI 1 then nI i else -1
def wiR (r : XRR) (v : Int32) : Int32 := match r with
  | none => -1
  | some (N, i) => if rres N i = nI 1 ∧ ltB v i = true then nI (wrow N i v.toNatClampNeg) else -1
def leR (r : XRR) (v : Int32) : Int32 := match r with
  | none => -1
  | some (N, i) => if inB v i = true then nI (rnd N v.toNatClampNeg).length else -1
theorem RXq.fr {r : XRR} {S : List Nat} {σ τ : XS} (h : RXq r σ) (hf : frm S σ τ) (h8 : 8 ∉ S) (h9 : 9 ∉ S) (h10 : 10 ∉ S) (h15 : 15 ∉ S) : RXq r τ := by
  match r, h with
  | none, h => exact ⟨by rw [hf 9 h9]; exact h.1, by rw [hf 10 h10]; exact h.2⟩
  | some (N, i), h => exact ⟨h.1, by rw [hf 9 h9]; exact h.2.1, by rw [hf 10 h10]; exact h.2.2.1, by rw [hf 8 h8]; exact h.2.2.2.1, by rw [hf 15 h15]; exact h.2.2.2.2⟩
theorem RMq.fr {r : XRR} {S : List Nat} {σ τ : XS} (h : RMq r σ) (hf : frm S σ τ) (h7 : 7 ∉ S) (h8 : 8 ∉ S) (h10 : 10 ∉ S) (h16 : 16 ∉ S) : RMq r τ := by
  match r, h with
  | none, h => exact (show τ 7 0 = nI 2 by rw [hf 7 h7]; exact h)
  | some (N, i), h => exact ⟨h.1, by rw [hf 8 h8]; exact h.2.1, by rw [hf 7 h7]; exact h.2.2.1, by rw [hf 10 h10]; exact h.2.2.2.1, by rw [hf 16 h16]; exact h.2.2.2.2⟩
theorem m1_le {v : Int32} (h : ¬ v < 0) : (-1 : Int32) ≤ v := by
  have h0 := Int32.not_lt.mp h
  have h1 := Int32.le_iff_toInt_le.mp h0
  apply Int32.le_iff_toInt_le.mpr
  have e1 : (-1 : Int32).toInt = -1 := by decide
  have e0 : (0 : Int32).toInt = 0 := by decide
  omega
theorem m1_lt {v : Int32} (h : ¬ v < 0) : (-1 : Int32) < v := by
  have h0 := Int32.not_lt.mp h
  have h1 := Int32.le_iff_toInt_le.mp h0
  apply Int32.lt_iff_toInt_lt.mpr
  have e1 : (-1 : Int32).toInt = -1 := by decide
  have e0 : (0 : Int32).toInt = 0 := by decide
  omega
theorem ltB_of {v : Int32} {i : Nat} (h1 : ¬ v < 0) (h2 : v < nI i) : ltB v i = true := by simp [ltB, h1, h2]
theorem inB_of {v : Int32} {i : Nat} (h1 : ¬ v < 0) (h2 : v ≤ nI i) : inB v i = true := by simp [inB, h1, h2]
theorem c_x_steps (l : Launch) {σ : XS} {rr : XRR} (h : RXq rr σ) : XCi false l y_x_steps b_x_steps 1 .int 0 0 (fun q => [.ref (q 0)]) σ (fun r σ' => r = stR rr ∧ σ = σ') := by
  refine XCi.of (by decide) rfl (fun _ => rfl) (fun _ => rfl) (fun E q cA hEl C K R => ?_)
  match rr, h with
  | none, h =>
    refine x_aload_n C rfl d_x_steps_0 ?_
    refine x_getv C K 10 rfl rfl h.2 d_x_steps_1 ?_
    refine x_iconst C (nI 1) rfl d_x_steps_4 ?_
    refine x_icmp_ne C d_x_steps_5 (fun z => ?_) (fun z => absurd z (by decide))
    refine x_iconst C (-1) rfl d_x_steps_15 ?_
    exact R rfl ⟨rfl, rfl⟩ d_x_steps_16
  | some (N, i), h =>
    refine x_aload_n C rfl d_x_steps_0 ?_
    refine x_getv C K 10 rfl rfl h.2.2.1 d_x_steps_1 ?_
    refine x_iconst C (nI 1) rfl d_x_steps_4 ?_
    refine x_icmp_ne C d_x_steps_5 (fun z => ?_) (fun z => ?_)
    · refine x_iconst C (-1) rfl d_x_steps_15 ?_
      exact R rfl ⟨by rw [stR, if_neg z], rfl⟩ d_x_steps_16
    · refine x_aload_n C rfl d_x_steps_8 ?_
      refine x_getv C K 9 rfl rfl h.2.1 d_x_steps_9 ?_
      refine x_goto C d_x_steps_12 ?_
      exact R rfl ⟨by rw [stR, if_pos z], rfl⟩ d_x_steps_16
theorem c_x_witness (l : Launch) {σ : XS} {rr : XRR} (h : RXq rr σ) (v : Int32) : XCi false l y_x_witness b_x_witness 2 .int 1 20 (fun q => [.ref (q 0), .int v]) σ (fun r σ' => r = wiR rr v ∧ σ = σ') := by
  refine XCi.of (by decide) rfl (fun _ => rfl) (fun _ => rfl) (fun E q cA hEl C K R => ?_)
  subst hEl
  have fail : wiR rr v = -1 → Wx E 21 [.ref (q 0), .int v] [] σ := by
    intro hf
    refine x_iconst C (-1) rfl d_x_witness_21 ?_
    exact R rfl ⟨hf.symm, rfl⟩ d_x_witness_22
  refine x_iload_n C rfl d_x_witness_0 ?_
  refine x_if_lt C d_x_witness_1 (fun z => fail ?_) (fun z => ?_)
  · match rr with
    | none => rfl
    | some (N, i) => rw [wiR, if_neg (fun hh => by simp [ltB, z] at hh)]
  · refine x_iload_n C rfl d_x_witness_4 ?_
    refine x_aload_n C rfl d_x_witness_5 ?_
    refine x_callVi C K s_x_134 (c_x_steps (e_l E) h) rfl rfl rfl rfl rfl rfl d_x_witness_6 (fun r σ' hr => ?_)
    obtain ⟨rfl, rfl⟩ := hr
    refine x_icmp_ge C d_x_witness_9 (fun z2 => fail ?_) (fun z2 => ?_)
    · match rr, h with
      | none, h => rfl
      | some (N, i), h =>
        by_cases e : rres N i = nI 1
        · rw [stR, if_pos e] at z2
          rw [wiR, if_neg (fun hh => by simp [ltB, Int32.not_lt.mpr z2] at hh)]
        · rw [wiR, if_neg (fun hh => e hh.1)]
    · match rr, h with
      | none, h => exact absurd (m1_le z) z2
      | some (N, i), h =>
        by_cases e : rres N i = nI 1
        · rw [stR, if_pos e] at z2
          have hlt := ltB_of z (Int32.not_le.mp z2)
          have hi := h.1
          obtain ⟨k, hk, rfl⟩ := (ltB_iff (by omega)).mp hlt
          refine x_aload_n C rfl d_x_witness_12 ?_
          refine x_geta C K 15 rfl (by decide) d_x_witness_13 ?_
          refine x_iload_n C rfl d_x_witness_16 ?_
          refine x_bald C K (k := 15) (N := 60) rfl rfl (by omega) (h.2.2.2.2 e k hk) d_x_witness_17 ?_
          refine x_goto C d_x_witness_18 ?_
          exact R rfl ⟨by rw [wiR, if_pos ⟨e, hlt⟩, nI_clamp (by omega)], rfl⟩ d_x_witness_22
        · rw [stR, if_neg e] at z2
          exact absurd (m1_le z) z2
theorem c_x_least (l : Launch) {σ : XS} {rr : XRR} (h : RXq rr σ) (v : Int32) : XCi false l y_x_least b_x_least 2 .int 0 0 (fun q => [.ref (q 0), .int v]) σ (fun r σ' => r = leR rr v ∧ σ = σ') := by
  refine XCi.of (by decide) rfl (fun _ => rfl) (fun _ => rfl) (fun E q cA hEl C K R => ?_)
  have fail : leR rr v = -1 → Wx E 21 [.ref (q 0), .int v] [] σ := by
    intro hf
    refine x_iconst C (-1) rfl d_x_least_21 ?_
    exact R rfl ⟨hf.symm, rfl⟩ d_x_least_22
  refine x_iload_n C rfl d_x_least_0 ?_
  refine x_if_lt C d_x_least_1 (fun z => fail ?_) (fun z => ?_)
  · match rr with
    | none => rfl
    | some (N, i) => rw [leR, if_neg (fun hh => by simp [inB, z] at hh)]
  · match rr, h with
    | none, h =>
      refine x_iload_n C rfl d_x_least_4 ?_
      refine x_aload_n C rfl d_x_least_5 ?_
      refine x_getv C K 9 rfl rfl h.1 d_x_least_6 ?_
      exact x_icmp_gt C d_x_least_9 (fun z2 => fail rfl) (fun z2 => absurd (m1_lt z) z2)
    | some (N, i), h =>
      refine x_iload_n C rfl d_x_least_4 ?_
      refine x_aload_n C rfl d_x_least_5 ?_
      refine x_getv C K 9 rfl rfl h.2.1 d_x_least_6 ?_
      refine x_icmp_gt C d_x_least_9 (fun z2 => fail ?_) (fun z2 => ?_)
      · rw [leR, if_neg (fun hh => by simp [inB, Int32.not_le.mpr z2] at hh)]
      · have hle := inB_of z (Int32.not_lt.mp z2)
        have hi := h.1
        obtain ⟨k, hk, rfl⟩ := (inB_iff (by omega)).mp hle
        refine x_aload_n C rfl d_x_least_12 ?_
        refine x_geta C K 8 rfl (by decide) d_x_least_13 ?_
        refine x_iload_n C rfl d_x_least_16 ?_
        refine x_iald C K (k := 8) (N := 61) rfl rfl (by omega) (h.2.2.2.1 k hk) d_x_least_17 ?_
        refine x_goto C d_x_least_18 ?_
        exact R rfl ⟨by rw [leR, if_pos hle, nI_clamp (by omega)], rfl⟩ d_x_least_22
theorem c_m_steps (l : Launch) {σ : XS} {rr : XRR} (h : RMq rr σ) : XCi true l y_m_steps b_m_steps 1 .int 0 0 (fun q => [.ref (q 0)]) σ (fun r σ' => r = stR rr ∧ σ = σ') := by
  refine XCi.of (by decide) rfl (fun _ => rfl) (fun _ => rfl) (fun E q cA hEl C K R => ?_)
  match rr, h with
  | none, h =>
    refine x_aload_n C rfl d_m_steps_0 ?_
    refine x_getv C K 7 rfl rfl h d_m_steps_1 ?_
    refine x_iconst C (nI 1) rfl d_m_steps_4 ?_
    refine x_icmp_ne C d_m_steps_5 (fun z => ?_) (fun z => absurd z (by decide))
    refine x_iconst C (-1) rfl d_m_steps_15 ?_
    exact R rfl ⟨rfl, rfl⟩ d_m_steps_16
  | some (N, i), h =>
    refine x_aload_n C rfl d_m_steps_0 ?_
    refine x_getv C K 7 rfl rfl h.2.2.1 d_m_steps_1 ?_
    refine x_iconst C (nI 1) rfl d_m_steps_4 ?_
    refine x_icmp_ne C d_m_steps_5 (fun z => ?_) (fun z => ?_)
    · refine x_iconst C (-1) rfl d_m_steps_15 ?_
      exact R rfl ⟨by rw [stR, if_neg z], rfl⟩ d_m_steps_16
    · refine x_aload_n C rfl d_m_steps_8 ?_
      refine x_getv C K 8 rfl rfl h.2.1 d_m_steps_9 ?_
      refine x_goto C d_m_steps_12 ?_
      exact R rfl ⟨by rw [stR, if_pos z], rfl⟩ d_m_steps_16
theorem c_m_witness (l : Launch) {σ : XS} {rr : XRR} (h : RMq rr σ) (v : Int32) : XCi true l y_m_witness b_m_witness 2 .int 0 0 (fun q => [.ref (q 0), .int v]) σ (fun r σ' => r = wiR rr v ∧ σ = σ') := by
  refine XCi.of (by decide) rfl (fun _ => rfl) (fun _ => rfl) (fun E q cA hEl C K R => ?_)
  have fail : wiR rr v = -1 → Wx E 29 [.ref (q 0), .int v] [] σ := by
    intro hf
    refine x_iconst C (-1) rfl d_m_witness_29 ?_
    exact R rfl ⟨hf.symm, rfl⟩ d_m_witness_30
  match rr, h with
  | none, h =>
    refine x_aload_n C rfl d_m_witness_0 ?_
    refine x_getv C K 7 rfl rfl h d_m_witness_1 ?_
    refine x_iconst C (nI 1) rfl d_m_witness_4 ?_
    exact x_icmp_ne C d_m_witness_5 (fun z => fail rfl) (fun z => absurd z (by decide))
  | some (N, i), h =>
    refine x_aload_n C rfl d_m_witness_0 ?_
    refine x_getv C K 7 rfl rfl h.2.2.1 d_m_witness_1 ?_
    refine x_iconst C (nI 1) rfl d_m_witness_4 ?_
    refine x_icmp_ne C d_m_witness_5 (fun z => fail ?_) (fun e => ?_)
    · rw [wiR, if_neg (fun hh => z hh.1)]
    · refine x_iload_n C rfl d_m_witness_8 ?_
      refine x_if_lt C d_m_witness_9 (fun z => fail ?_) (fun z => ?_)
      · rw [wiR, if_neg (fun hh => by simp [ltB, z] at hh)]
      · refine x_iload_n C rfl d_m_witness_12 ?_
        refine x_aload_n C rfl d_m_witness_13 ?_
        refine x_getv C K 8 rfl rfl h.2.1 d_m_witness_14 ?_
        refine x_icmp_ge C d_m_witness_17 (fun z2 => fail ?_) (fun z2 => ?_)
        · rw [wiR, if_neg (fun hh => by simp [ltB, Int32.not_lt.mpr z2] at hh)]
        · have hlt := ltB_of z (Int32.not_le.mp z2)
          have hi := h.1
          obtain ⟨k, hk, rfl⟩ := (ltB_iff (by omega)).mp hlt
          refine x_aload_n C rfl d_m_witness_20 ?_
          refine x_geta C K 16 rfl (by decide) d_m_witness_21 ?_
          refine x_iload_n C rfl d_m_witness_24 ?_
          refine x_iald C K (k := 16) (N := 60) rfl rfl (by omega) (h.2.2.2.2 e k hk) d_m_witness_25 ?_
          refine x_goto C d_m_witness_26 ?_
          exact R rfl ⟨by rw [wiR, if_pos ⟨e, hlt⟩, nI_clamp (by omega)], rfl⟩ d_m_witness_30
theorem rres_lt {N : XNet} {i : Nat} : ¬ nI 2 ≤ rres N i := by
  unfold rres
  split
  · decide
  · split <;> decide
theorem c_m_least (l : Launch) {σ : XS} {rr : XRR} (h : RMq rr σ) (v : Int32) : XCi true l y_m_least b_m_least 2 .int 0 0 (fun q => [.ref (q 0), .int v]) σ (fun r σ' => r = leR rr v ∧ σ = σ') := by
  refine XCi.of (by decide) rfl (fun _ => rfl) (fun _ => rfl) (fun E q cA hEl C K R => ?_)
  have fail : leR rr v = -1 → Wx E 29 [.ref (q 0), .int v] [] σ := by
    intro hf
    refine x_iconst C (-1) rfl d_m_least_29 ?_
    exact R rfl ⟨hf.symm, rfl⟩ d_m_least_30
  match rr, h with
  | none, h =>
    refine x_aload_n C rfl d_m_least_0 ?_
    refine x_getv C K 7 rfl rfl h d_m_least_1 ?_
    refine x_iconst C (nI 2) rfl d_m_least_4 ?_
    exact x_icmp_ge C d_m_least_5 (fun z => fail rfl) (fun z => absurd (Int32.le_refl _) z)
  | some (N, i), h =>
    refine x_aload_n C rfl d_m_least_0 ?_
    refine x_getv C K 7 rfl rfl h.2.2.1 d_m_least_1 ?_
    refine x_iconst C (nI 2) rfl d_m_least_4 ?_
    refine x_icmp_ge C d_m_least_5 (fun z => absurd z rres_lt) (fun e => ?_)
    refine x_iload_n C rfl d_m_least_8 ?_
    refine x_if_lt C d_m_least_9 (fun z => fail ?_) (fun z => ?_)
    · rw [leR, if_neg (fun hh => by simp [inB, z] at hh)]
    · refine x_iload_n C rfl d_m_least_12 ?_
      refine x_aload_n C rfl d_m_least_13 ?_
      refine x_getv C K 8 rfl rfl h.2.1 d_m_least_14 ?_
      refine x_icmp_gt C d_m_least_17 (fun z2 => fail ?_) (fun z2 => ?_)
      · rw [leR, if_neg (fun hh => by simp [inB, Int32.not_le.mpr z2] at hh)]
      · have hle := inB_of z (Int32.not_lt.mp z2)
        have hi := h.1
        obtain ⟨k, hk, rfl⟩ := (inB_iff (by omega)).mp hle
        refine x_aload_n C rfl d_m_least_20 ?_
        refine x_geta C K 10 rfl (by decide) d_m_least_21 ?_
        refine x_iload_n C rfl d_m_least_24 ?_
        refine x_iald C K (k := 10) (N := 61) rfl rfl (by omega) (h.2.2.2.1 k hk) d_m_least_25 ?_
        refine x_goto C d_m_least_26 ?_
        exact R rfl ⟨by rw [leR, if_pos hle, nI_clamp (by omega)], rfl⟩ d_m_least_30
end
section
/-! the tree, mathematically -/
abbrev OM : Nat := 1000000
abbrev XT : Type := Nat × (Nat → Mk) × (Nat → Option Nat)
abbrev tn (T : XT) : Nat := T.1
abbrev tm (T : XT) : Nat → Mk := T.2.1
abbrev ta (T : XT) : Nat → Option Nat := T.2.2
def aI (o : Option Nat) : Int32 := match o with
  | none => -1
  | some n => nI n
def tRoot (m : Mk) : XT := (1, fun _ => m, fun _ => none)
def tAdd (T : XT) (w : Mk) (par : Nat) : XT := (tn T + 1, fun j => if j = tn T then w else tm T j, fun j => if j = tn T then some par else ta T j)
/-- markings of the tree: finite numbers stay small, nothing at places that aren't there -/
def okN (P j : Nat) (m : Mk) : Prop := (∀ p, m p = OM ∨ m p ≤ 20 + 5 * j) ∧ ∀ p, P ≤ p → m p = 0
def TOK (P : Nat) (T : XT) : Prop := tn T ≤ 1001 ∧ ∀ j, j < tn T → (∀ a, ta T j = some a → a < j) ∧ okN P j (tm T j)
theorem okN.le {P j : Nat} {m : Mk} (h : okN P j m) (hj : j ≤ 1001) : ∀ p, m p ≤ OM := fun p => by
  rcases h.1 p with h1 | h1
  · omega
  · have : (OM : Nat) = 1000000 := rfl
    omega
theorem TOK.root {N : XNet} (hN : NOK N) : TOK (nP N) (tRoot (nfi N)) := by
  refine ⟨Nat.le_of_ble_eq_true rfl, fun j hj => ⟨fun a h => ?_, fun p => Or.inr ?_, fun p hp => ?_⟩⟩
  · cases h
  · have := hN.2.2.1 p
    show nfi N p ≤ _
    omega
  · exact hN.2.2.2.2.2.2.1 p hp
theorem TOK.add {P : Nat} {T : XT} (h : TOK P T) {w : Mk} {par : Nat} (hp : par < tn T) (hw : okN P (tn T) w) (hn : tn T ≤ 1000) : TOK P (tAdd T w par) := by
  refine ⟨?_, fun j hj => ?_⟩
  · show tn T + 1 ≤ 1001
    omega
  · have hj' : j < tn T + 1 := hj
    by_cases e : j = tn T
    · subst e
      refine ⟨fun a ha => ?_, ?_⟩
      · have ha' : (if tn T = tn T then some par else ta T (tn T)) = some a := ha
        rw [if_pos rfl] at ha'
        cases ha'
        exact hp
      · show okN P (tn T) (if tn T = tn T then w else tm T (tn T))
        rw [if_pos rfl]
        exact hw
    · obtain ⟨h1, h2⟩ := h.2 j (by omega)
      refine ⟨fun a ha => ?_, ?_⟩
      · have ha' : (if j = tn T then some par else ta T j) = some a := ha
        rw [if_neg e] at ha'
        exact h1 a ha'
      · show okN P j (if j = tn T then w else tm T j)
        rw [if_neg e]
        exact h2
theorem tm_add {T : XT} {w : Mk} {par j : Nat} (h : j < tn T) : tm (tAdd T w par) j = tm T j := if_neg (by omega)
theorem ta_add {T : XT} {w : Mk} {par j : Nat} (h : j < tn T) : ta (tAdd T w par) j = ta T j := if_neg (by omega)
/-! the way up -/
def chU (T : XT) : Nat → Option Nat → List Nat
  | 0, _ => []
  | _ + 1, none => []
  | f + 1, some u => u :: chU T f (ta T u)
abbrev chn (T : XT) (o : Option Nat) : List Nat := chU T 1002 o
theorem chU_none (T : XT) (f : Nat) : chU T f none = [] := by cases f <;> rfl
theorem chU_fuel {T : XT} {P : Nat} (h : TOK P T) : ∀ (u f f' : Nat), u < tn T → u < f → u < f' → chU T f (some u) = chU T f' (some u) := by
  intro u
  induction u using Nat.strongRecOn with
  | ind u ih =>
    intro f f' hu h1 h2
    match f, f', h1, h2 with
    | f + 1, f' + 1, h1, h2 =>
      show u :: chU T f (ta T u) = u :: chU T f' (ta T u)
      cases e : ta T u with
      | none => rw [chU_none, chU_none]
      | some a =>
        have ha := (h.2 u hu).1 a e
        rw [ih a ha f f' (by omega) (by omega) (by omega)]
theorem chn_some {T : XT} {P : Nat} (h : TOK P T) {u : Nat} (hu : u < tn T) : chn T (some u) = u :: chn T (ta T u) := by
  have hn := h.1
  show u :: chU T 1001 (ta T u) = u :: chU T 1002 (ta T u)
  cases e : ta T u with
  | none => rw [chU_none, chU_none]
  | some a =>
    have ha := (h.2 u hu).1 a e
    rw [chU_fuel h a 1001 1002 (by omega) (by omega) (by omega)]
theorem chU_mem {T : XT} {P : Nat} (h : TOK P T) : ∀ (f u v : Nat), u < tn T → v ∈ chU T f (some u) → v ≤ u
  | 0, u, v, _, hv => by cases hv
  | f + 1, u, v, hu, hv => by
    rcases List.mem_cons.mp hv with e | hv
    · omega
    · cases e : ta T u with
      | none => rw [e, chU_none] at hv; cases hv
      | some a =>
        rw [e] at hv
        have ha := (h.2 u hu).1 a e
        have := chU_mem h f a v (by omega) hv
        omega
theorem chU_add {T : XT} {P : Nat} (h : TOK P T) (w : Mk) (par : Nat) : ∀ (f u : Nat), u < tn T → chU (tAdd T w par) f (some u) = chU T f (some u)
  | 0, _, _ => rfl
  | f + 1, u, hu => by
    show u :: chU (tAdd T w par) f (ta (tAdd T w par) u) = u :: chU T f (ta T u)
    rw [ta_add hu]
    cases e : ta T u with
    | none => rw [chU_none, chU_none]
    | some a =>
      have ha := (h.2 u hu).1 a e
      rw [chU_add h w par f a (by omega)]
/-! acceleration -/
def acc1 (a w : Mk) : Mk := if leM a w = true then (fun p => if a p < w p then OM else w p) else w
def leF (a b : Mk) : Prop := ∀ p, a p ≤ b p
def fixC (c : List Mk) (z : Mk) : Prop := ∀ a, a ∈ c → acc1 a z = z
def accI (c : List Mk) (w z : Mk) : Prop := leF w z ∧ (∀ p, z p = w p ∨ z p = OM) ∧ ∀ y, (∀ p, y p ≤ OM) → leF w y → fixC c y → leF z y
def isAcc (c : List Mk) (w z : Mk) : Prop := accI c w z ∧ fixC c z
theorem acc1_val (a w : Mk) (p : Nat) : acc1 a w p = w p ∨ acc1 a w p = OM := by
  unfold acc1
  split
  · show (if a p < w p then OM else w p) = w p ∨ (if a p < w p then OM else w p) = OM
    split
    · exact Or.inr rfl
    · exact Or.inl rfl
  · exact Or.inl rfl
theorem acc1_inf {a w : Mk} (hw : ∀ p, w p ≤ OM) : leF w (acc1 a w) := fun p => by
  rcases acc1_val a w p with h | h
  · rw [h]; exact Nat.le_refl _
  · rw [h]; exact hw p
theorem acc1_le {a w : Mk} (hw : ∀ p, w p ≤ OM) : ∀ p, acc1 a w p ≤ OM := fun p => by
  rcases acc1_val a w p with h | h
  · rw [h]; exact hw p
  · rw [h]; exact Nat.le_refl _
theorem acc1_mono {a z y : Mk} (h : leF z y) (hy : ∀ p, y p ≤ OM) : leF (acc1 a z) (acc1 a y) := fun p => by
  by_cases hz : leM a z = true
  · have hy2 : leM a y = true := leM_iff.mpr (fun p hp => Nat.le_trans (leM_iff.mp hz p hp) (h p))
    rw [acc1, if_pos hz, acc1, if_pos hy2]
    show (if a p < z p then OM else z p) ≤ (if a p < y p then OM else y p)
    have h1 := h p
    have h2 := hy p
    split
    · rw [if_pos (by omega)]; exact Nat.le_refl _
    · split
      · omega
      · exact h1
  · rw [acc1, if_neg hz]
    exact Nat.le_trans (h p) (acc1_inf hy p)
theorem accI.rf (c : List Mk) (w : Mk) : accI c w w := ⟨fun _ => Nat.le_refl _, fun _ => Or.inl rfl, fun _ _ h _ => h⟩
theorem accI.step {c : List Mk} {w z a : Mk} (h : accI c w z) (ha : a ∈ c) (hz : ∀ p, z p ≤ OM) : accI c w (acc1 a z) := by
  obtain ⟨h1, h2, h3⟩ := h
  refine ⟨fun p => Nat.le_trans (h1 p) (acc1_inf hz p), fun p => ?_, fun y hy hwy hf => ?_⟩
  · rcases acc1_val a z p with e | e
    · rw [e]; exact h2 p
    · exact Or.inr e
  · have := acc1_mono (a := a) (h3 y hy hwy hf) hy
    rw [hf a ha] at this
    exact this
theorem accI.le {c : List Mk} {w z : Mk} (h : accI c w z) (hw : ∀ p, w p ≤ OM) : ∀ p, z p ≤ OM := fun p => by
  rcases h.2.1 p with e | e
  · rw [e]; exact hw p
  · rw [e]; exact Nat.le_refl _
theorem isAcc.one {c : List Mk} {w z z' : Mk} (hw : ∀ p, w p ≤ OM) (h : isAcc c w z) (h' : isAcc c w z') : z = z' := by
  funext p
  exact Nat.le_antisymm (h.1.2.2 z' (h'.1.le hw) h'.1.1 h'.2 p) (h'.1.2.2 z (h.1.le hw) h.1.1 h.2 p)
def ind (b : Nat) : Nat := if b = OM then 0 else 1
def cntO (z : Mk) : Nat := ind (z 0) + ind (z 1) + ind (z 2) + ind (z 3) + ind (z 4)
theorem cnt_lt {z z' : Mk} (h : ∀ p, z' p = z p ∨ z' p = OM) {p : Nat} (hp : p < 5) (h1 : z p ≠ OM) (h2 : z' p = OM) : cntO z' < cntO z := by
  have k : ∀ i, ind (z' i) ≤ ind (z i) := fun i => by
    rcases h i with e | e
    · rw [e]; exact Nat.le_refl _
    · rw [e]; simp [ind]
  have s : ind (z' p) < ind (z p) := by simp [ind, h1, h2]
  have k0 := k 0
  have k1 := k 1
  have k2 := k 2
  have k3 := k 3
  have k4 := k 4
  unfold cntO
  rcases (by omega : p = 0 ∨ p = 1 ∨ p = 2 ∨ p = 3 ∨ p = 4) with e | e | e | e | e <;> subst e <;> omega
theorem cnt_5 (z : Mk) : cntO z ≤ 5 := by
  have k : ∀ i, ind (z i) ≤ 1 := fun i => by unfold ind; split <;> omega
  have k0 := k 0
  have k1 := k 1
  have k2 := k 2
  have k3 := k 3
  have k4 := k 4
  unfold cntO
  omega
/-- what changes at all, changes at one of the five places -/
theorem acc1_ne {P : Nat} (hP : P ≤ 5) {a z : Mk} (h0 : ∀ p, P ≤ p → z p = 0) (h : acc1 a z ≠ z) : ∃ p, p < 5 ∧ z p ≠ OM ∧ acc1 a z p = OM := by
  have : ∃ p, acc1 a z p ≠ z p := by
    apply Classical.byContradiction
    intro hn
    apply h
    funext p
    exact Classical.byContradiction (fun e => hn ⟨p, e⟩)
  obtain ⟨p, hp⟩ := this
  have ho : acc1 a z p = OM := by
    rcases acc1_val a z p with e | e
    · exact absurd e hp
    · exact e
  refine ⟨p, ?_, fun e => hp (by rw [ho, e]), ho⟩
  rcases Nat.lt_or_ge p 5 with h1 | h1
  · exact h1
  · have hz := h0 p (by omega)
    exfalso
    apply hp
    unfold acc1
    split
    · show (if a p < z p then OM else z p) = z p
      rw [if_neg (by omega)]
    · rfl
theorem acc1_0 {P : Nat} {a z : Mk} (h0 : ∀ p, P ≤ p → z p = 0) : ∀ p, P ≤ p → acc1 a z p = 0 := fun p hp => by
  have hz := h0 p hp
  unfold acc1
  split
  · show (if a p < z p then OM else z p) = 0
    rw [if_neg (by omega)]
    exact hz
  · exact hz
theorem exAcc {P : Nat} (hP : P ≤ 5) (c : List Mk) {w : Mk} (hw : ∀ p, w p ≤ OM) : ∀ (n : Nat) (z : Mk), cntO z ≤ n → (∀ p, P ≤ p → z p = 0) → accI c w z → ∃ z', isAcc c w z' := by
  intro n
  induction n with
  | zero =>
    intro z hc h0 hI
    refine ⟨z, hI, fun a ha => Classical.byContradiction (fun hne => ?_)⟩
    obtain ⟨p, p1, p2, p3⟩ := acc1_ne hP h0 hne
    have := cnt_lt (acc1_val a z) p1 p2 p3
    omega
  | succ n ih =>
    intro z hc h0 hI
    by_cases hf : fixC c z
    · exact ⟨z, hI, hf⟩
    · have : ∃ a, a ∈ c ∧ acc1 a z ≠ z := by
        apply Classical.byContradiction
        intro hn
        exact hf (fun a ha => Classical.byContradiction (fun e => hn ⟨a, ha, e⟩))
      obtain ⟨a, ha, hne⟩ := this
      obtain ⟨p, p1, p2, p3⟩ := acc1_ne hP h0 hne
      have := cnt_lt (acc1_val a z) p1 p2 p3
      exact ih (acc1 a z) (by omega) (acc1_0 h0) (hI.step ha (hI.le hw))
noncomputable def Acc (c : List Mk) (w : Mk) : Mk := @dite _ (∃ z, isAcc c w z) (Classical.propDecidable _) (fun h => h.choose) (fun _ => w)
theorem Acc_spec {P : Nat} (hP : P ≤ 5) {c : List Mk} {w : Mk} (hw : ∀ p, w p ≤ OM) (h0 : ∀ p, P ≤ p → w p = 0) : isAcc c w (Acc c w) := by
  have h : ∃ z, isAcc c w z := exAcc hP c hw (cntO w) w (Nat.le_refl _) h0 (accI.rf c w)
  rw [Acc, dif_pos h]
  exact h.choose_spec
theorem Acc_eq {c : List Mk} {w z : Mk} (hw : ∀ p, w p ≤ OM) (h : isAcc c w z) : Acc c w = z := by
  have he : ∃ z, isAcc c w z := ⟨z, h⟩
  rw [Acc, dif_pos he]
  exact isAcc.one hw he.choose_spec h
end
section
/-! growing -/
def eqM (a b : Mk) : Bool := leM a b && leM b a
theorem eqM_iff {a b : Mk} : eqM a b = true ↔ ∀ p, p < 5 → a p = b p := by
  simp only [eqM, Bool.and_eq_true, leM_iff]
  constructor
  · intro h p hp
    have h1 := h.1 p hp
    have h2 := h.2 p hp
    omega
  · intro h
    exact ⟨fun p hp => Nat.le_of_eq (h p hp), fun p hp => Nat.le_of_eq (h p hp).symm⟩
def fireO (N : XNet) (t : Nat) (m : Mk) : Mk := fun p => if m p = OM then OM else m p + ngv N t p - ntk N t p
def cM (T : XT) (o : Option Nat) : List Mk := (chn T o).map (tm T)
noncomputable def newM (N : XNet) (T : XT) (j t : Nat) : Mk := Acc (cM T (some j)) (fireO N t (tm T j))
def canE (N : XNet) (T : XT) (j t : Nat) : Bool := decide (tn T ≤ 1000) && leM (ntk N t) (tm T j)
noncomputable def eT (N : XNet) (j t : Nat) (T : XT) : XT := if canE N T j t then tAdd T (newM N T j t) j else T
noncomputable def exK (N : XNet) (j : Nat) : Nat → XT → XT
  | 0, T => T
  | t + 1, T => eT N j t (exK N j t T)
def agn (T : XT) (j : Nat) : Bool := (chn T (ta T j)).any (fun u => eqM (tm T u) (tm T j))
noncomputable def gr (N : XNet) : Nat → XT
  | 0 => tRoot (nfi N)
  | k + 1 => if agn (gr N k) k then gr N k else exK N k (nT N) (gr N k)
theorem okN.mono {P i j : Nat} {m : Mk} (h : okN P i m) (hij : i ≤ j) : okN P j m := ⟨fun p => by
  rcases h.1 p with e | e
  · exact Or.inl e
  · exact Or.inr (by omega), h.2⟩
theorem okN.fire {N : XNet} (hN : NOK N) {j t : Nat} {m : Mk} (h : okN (nP N) j m) : okN (nP N) (j + 1) (fireO N t m) := by
  refine ⟨fun p => ?_, fun p hp => ?_⟩
  · show (if m p = OM then OM else m p + ngv N t p - ntk N t p) = OM ∨ (if m p = OM then OM else m p + ngv N t p - ntk N t p) ≤ _
    by_cases e : m p = OM
    · rw [if_pos e]; exact Or.inl rfl
    · rw [if_neg e]
      have := hN.2.2.2.2.2.1 t p
      rcases h.1 p with e2 | e2
      · exact absurd e2 e
      · exact Or.inr (by omega)
  · have e0 := h.2 p hp
    have e1 := hN.2.2.2.2.2.2.2.2.2 t p hp
    show (if m p = OM then OM else m p + ngv N t p - ntk N t p) = 0
    rw [if_neg (by rw [e0]; decide), e0, e1]
    omega
theorem okN.acc {P n : Nat} (hP : P ≤ 5) (hn : n ≤ 1001) {c : List Mk} {w : Mk} (h : okN P n w) : okN P n (Acc c w) := by
  have hs := Acc_spec hP (c := c) (h.le hn) h.2
  refine ⟨fun p => ?_, fun p hp => ?_⟩
  · rcases hs.1.2.1 p with e | e
    · rw [e]; exact h.1 p
    · exact Or.inl e
  · -- what isn't there stays away: below a fixed point that is 0 there
    have hw := h.le hn
    have hI := hs.1
    rcases hI.2.1 p with e | e
    · rw [e]; exact h.2 p hp
    · -- the marking that is Acc but 0 beyond P is fixed too
      have key : leF (Acc c w) (fun p => if P ≤ p then 0 else Acc c w p) := by
        refine hI.2.2 _ (fun p => ?_) (fun p => ?_) (fun a ha => ?_)
        · show (if P ≤ p then 0 else Acc c w p) ≤ OM
          split
          · exact Nat.zero_le _
          · exact hI.le hw p
        · show w p ≤ (if P ≤ p then 0 else Acc c w p)
          split
          · rename_i h1
            rw [h.2 p h1]
            exact Nat.zero_le _
          · exact hI.1 p
        · have hf := hs.2 a ha
          by_cases hle : leM a (fun p => if P ≤ p then 0 else Acc c w p) = true
          · have hle2 : leM a (Acc c w) = true := leM_iff.mpr (fun p hp => by
              have h1 := leM_iff.mp hle p hp
              have h2 : a p ≤ if P ≤ p then 0 else Acc c w p := h1
              split at h2
              · omega
              · exact h2)
            rw [acc1, if_pos hle]
            funext p
            show (if a p < (if P ≤ p then 0 else Acc c w p) then OM else (if P ≤ p then 0 else Acc c w p)) = (if P ≤ p then 0 else Acc c w p)
            by_cases hp2 : P ≤ p
            · rw [if_pos hp2, if_neg (by omega)]
            · rw [if_neg hp2]
              have := congrFun hf p
              rw [acc1, if_pos hle2] at this
              exact this
          · rw [acc1, if_neg hle]
      have := key p
      simp only [hp, if_true] at this
      omega
theorem newM_ok {N : XNet} (hN : NOK N) {T : XT} (hT : TOK (nP N) T) {j t : Nat} (hj : j < tn T) : okN (nP N) (tn T) (newM N T j t) := by
  have h1 := hT.1
  have h2 := (hT.2 j hj).2
  exact okN.acc hN.1 h1 ((h2.fire hN).mono (by omega))
theorem eT_ok {N : XNet} (hN : NOK N) {T : XT} (hT : TOK (nP N) T) {j t : Nat} (hj : j < tn T) : TOK (nP N) (eT N j t T) ∧ tn T ≤ tn (eT N j t T) := by
  unfold eT
  split
  · rename_i h
    simp only [canE, Bool.and_eq_true, decide_eq_true_eq] at h
    exact ⟨hT.add hj (newM_ok hN hT hj) h.1, Nat.le_succ _⟩
  · exact ⟨hT, Nat.le_refl _⟩
theorem exK_ok {N : XNet} (hN : NOK N) {T : XT} (hT : TOK (nP N) T) {j : Nat} (hj : j < tn T) : ∀ t, TOK (nP N) (exK N j t T) ∧ tn T ≤ tn (exK N j t T)
  | 0 => ⟨hT, Nat.le_refl _⟩
  | t + 1 => by
    obtain ⟨h1, h2⟩ := exK_ok hN hT hj t
    obtain ⟨h3, h4⟩ := eT_ok hN h1 (j := j) (t := t) (by omega)
    exact ⟨h3, Nat.le_trans h2 h4⟩
/-- old nodes stay -/
theorem eT_old {N : XNet} {T : XT} {P : Nat} (hT : TOK P T) {j t u : Nat} (hu : u < tn T) : tm (eT N j t T) u = tm T u ∧ ta (eT N j t T) u = ta T u ∧ agn (eT N j t T) u = agn T u := by
  unfold eT
  split
  · refine ⟨tm_add hu, ta_add hu, ?_⟩
    have e1 : chn (tAdd T (newM N T j t) j) (ta T u) = chn T (ta T u) := by
      cases e : ta T u with
      | none => rfl
      | some a =>
        have ha := (hT.2 u hu).1 a e
        exact chU_add hT _ _ 1002 a (by omega)
    unfold agn
    rw [ta_add hu, tm_add hu, e1]
    apply Bool.eq_iff_iff.mpr
    simp only [List.any_eq_true]
    have hm : ∀ x, x ∈ chn T (ta T u) → x < tn T := by
      intro x hx
      cases e : ta T u with
      | none => rw [e] at hx; cases hx
      | some a =>
        rw [e] at hx
        have ha := (hT.2 u hu).1 a e
        have := chU_mem hT 1002 a x (by omega) hx
        omega
    constructor
    · rintro ⟨x, h1, h2⟩
      rw [tm_add (hm x h1)] at h2
      exact ⟨x, h1, h2⟩
    · rintro ⟨x, h1, h2⟩
      refine ⟨x, h1, ?_⟩
      rw [tm_add (hm x h1)]
      exact h2
  · exact ⟨rfl, rfl, rfl⟩
theorem exK_old {N : XNet} (hN : NOK N) {T : XT} (hT : TOK (nP N) T) {j u : Nat} (hj : j < tn T) (hu : u < tn T) : ∀ t, tm (exK N j t T) u = tm T u ∧ ta (exK N j t T) u = ta T u ∧ agn (exK N j t T) u = agn T u
  | 0 => ⟨rfl, rfl, rfl⟩
  | t + 1 => by
    obtain ⟨h1, h2, h3⟩ := exK_old hN hT hj hu t
    obtain ⟨k1, k2⟩ := exK_ok hN hT hj t
    obtain ⟨g1, g2, g3⟩ := eT_old (N := N) k1 (j := j) (t := t) (u := u) (by omega)
    exact ⟨g1.trans h1, g2.trans h2, g3.trans h3⟩
theorem grT_ok {N : XNet} (hN : NOK N) : ∀ k, (∀ i, i < k → i < tn (gr N i)) → TOK (nP N) (gr N k)
  | 0, _ => TOK.root hN
  | k + 1, h => by
    have ih := grT_ok hN k (fun i hi => h i (by omega))
    show TOK (nP N) (if agn (gr N k) k then gr N k else exK N k (nT N) (gr N k))
    split
    · exact ih
    · exact (exK_ok hN ih (h k (by omega)) (nT N)).1
/-- when growing ends -/
def isEndT (N : XNet) (k : Nat) : Prop := (tn (gr N k) ≤ k ∨ 1000 < tn (gr N k)) ∧ ∀ j, j < k → j < tn (gr N j) ∧ tn (gr N j) ≤ 1000
theorem isEndT.one {N : XNet} {i j : Nat} (h1 : isEndT N i) (h2 : isEndT N j) : i = j := by
  rcases Nat.lt_trichotomy i j with h | h | h
  · have := h2.2 i h
    rcases h1.1 with e | e <;> omega
  · exact h
  · have := h1.2 j h
    rcases h2.1 with e | e <;> omega
theorem gr_mono {N : XNet} (hN : NOK N) {k : Nat} (h : ∀ i, i ≤ k → i < tn (gr N i)) : tn (gr N k) ≤ tn (gr N (k + 1)) ∧ ∀ u, u < tn (gr N k) → tm (gr N (k + 1)) u = tm (gr N k) u ∧ agn (gr N (k + 1)) u = agn (gr N k) u := by
  have ih := grT_ok hN k (fun i hi => h i (by omega))
  have e : gr N (k + 1) = if agn (gr N k) k then gr N k else exK N k (nT N) (gr N k) := rfl
  rw [e]
  split
  · exact ⟨Nat.le_refl _, fun _ _ => ⟨rfl, rfl⟩⟩
  · refine ⟨(exK_ok hN ih (h k (by omega)) (nT N)).2, fun u hu => ?_⟩
    obtain ⟨a, -, b⟩ := exK_old hN ih (h k (by omega)) hu (nT N)
    exact ⟨a, b⟩
/-! which transitions live -/
def lvI (B : Nat → Bool) : Int32 := nI ((B 0).toNat + 2 * (B 1).toNat + 4 * (B 2).toNat + 8 * (B 3).toNat + 16 * (B 4).toNat + 32 * (B 5).toNat)
theorem lvI_congr {B B' : Nat → Bool} (h : ∀ t, t < 6 → B t = B' t) : lvI B = lvI B' := by
  unfold lvI
  rw [h 0 (by omega), h 1 (by omega), h 2 (by omega), h 3 (by omega), h 4 (by omega), h 5 (by omega)]
theorem lvI_0 : lvI (fun _ => false) = nI 0 := rfl
theorem lv_or (B : Nat → Bool) : ∀ t, t < 6 → lvI B ||| (nI 1 <<< (nI t &&& 31)) = lvI (fun s => decide (s = t) || B s) := by
  intro t ht
  unfold lvI
  dsimp only
  generalize B 0 = b0
  generalize B 1 = b1
  generalize B 2 = b2
  generalize B 3 = b3
  generalize B 4 = b4
  generalize B 5 = b5
  rcases (by omega : t = 0 ∨ t = 1 ∨ t = 2 ∨ t = 3 ∨ t = 4 ∨ t = 5) with e | e | e | e | e | e <;> subst e <;> cases b0 <;> cases b1 <;> cases b2 <;> cases b3 <;> cases b4 <;> cases b5 <;> rfl
theorem lv_bit (B : Nat → Bool) : ∀ t, t < 6 → (lvI B >>> (nI t &&& 31)) &&& nI 1 = bI (B t) := by
  intro t ht
  unfold lvI
  rcases (by omega : t = 0 ∨ t = 1 ∨ t = 2 ∨ t = 3 ∨ t = 4 ∨ t = 5) with e | e | e | e | e | e <;> subst e <;> generalize B 0 = b0 <;> generalize B 1 = b1 <;> generalize B 2 = b2 <;> generalize B 3 = b3 <;> generalize B 4 = b4 <;> generalize B 5 = b5 <;> cases b0 <;> cases b1 <;> cases b2 <;> cases b3 <;> cases b4 <;> cases b5 <;> rfl
def lvB (N : XNet) (T : XT) (t : Nat) : Bool := decide (t < nT N) && xany (tn T) (fun j => leM (ntk N t) (tm T j))
/-- what the class gathers: of nodes below k that aren't there again -/
def lvX (N : XNet) (T : XT) (k : Nat) (B : Nat → Bool) : Prop := (∀ t, t < 6 → B t = true → lvB N T t = true) ∧ ∀ j, j < k → agn T j = false → ∀ t, t < nT N → leM (ntk N t) (tm T j) = true → B t = true
theorem lvX_end {N : XNet} (hN : NOK N) {T : XT} (hT : TOK (nP N) T) {k : Nat} (hk : tn T ≤ k) {B : Nat → Bool} (h : lvX N T k B) : lvI B = lvI (lvB N T) := by
  have h6 := hN.2.1
  apply lvI_congr
  intro t ht
  apply Bool.eq_iff_iff.mpr
  constructor
  · exact h.1 t ht
  · intro hl
    simp only [lvB, Bool.and_eq_true, decide_eq_true_eq, xany_iff] at hl
    obtain ⟨htT, j, hj, hle⟩ := hl
    have key : ∀ j, j < tn T → leM (ntk N t) (tm T j) = true → B t = true := by
      intro j
      induction j using Nat.strongRecOn with
      | ind j ih =>
        intro hj hle
        cases ha : agn T j with
        | false => exact h.2 j (by omega) ha t htT hle
        | true =>
          obtain ⟨u, hu, he⟩ := List.any_eq_true.mp ha
          cases e : ta T j with
          | none => rw [e] at hu; cases hu
          | some a =>
            rw [e] at hu
            have haj := (hT.2 j hj).1 a e
            have hua := chU_mem hT 1002 a u (by omega) hu
            have he2 := eqM_iff.mp he
            exact ih u (by omega) (by omega) (leM_iff.mpr (fun p hp => by rw [he2 p hp]; exact leM_iff.mp hle p hp))
    exact key j hj hle
/-! limits -/
def topB (T : XT) (j : Nat) : Bool := xall (tn T) (fun k => !leM (tm T j) (tm T k) || (leM (tm T k) (tm T j) && decide (j ≤ k)))
def lsN (a b : Mk) : Nat → Nat → Bool
  | 0, _ => false
  | f + 1, p => if a p = b p then lsN a b f (p + 1) else decide (a p < b p)
def lssM (a b : Mk) : Bool := lsN a b 5 0
def upN (f : Nat → Nat) (k x : Nat) : Nat → Nat := fun j => if j = k then x else f j
def ins (T : XT) (j : Nat) : Nat → (Nat → Nat) → (Nat → Nat)
  | 0, tp => upN tp 0 j
  | k + 1, tp => if lssM (tm T j) (tm T (tp k)) then ins T j k (upN tp (k + 1) (tp k)) else upN tp (k + 1) j
def tf (T : XT) : Nat → Nat × (Nat → Nat)
  | 0 => (0, fun _ => 0)
  | j + 1 => if topB T j then ((tf T j).1 + 1, ins T j (tf T j).1 (tf T j).2) else tf T j
theorem ins_hi (T : XT) (j : Nat) : ∀ (k : Nat) (tp : Nat → Nat) (i : Nat), k < i → ins T j k tp i = tp i
  | 0, tp, i, h => by simp [ins, upN]; omega
  | k + 1, tp, i, h => by
    unfold ins
    split
    · rw [ins_hi T j k _ i (by omega)]
      simp [upN]
      omega
    · simp [upN]; omega
/-- inserting keeps all, and brings j -/
theorem ins_spec (T : XT) (j : Nat) : ∀ (k : Nat) (tp : Nat → Nat), (∀ i, i ≤ k → ins T j k tp i = j ∨ ∃ i', i' < k ∧ ins T j k tp i = tp i') ∧ (∃ i, i ≤ k ∧ ins T j k tp i = j) ∧ ∀ i', i' < k → ∃ i, i ≤ k ∧ ins T j k tp i = tp i'
  | 0, tp => by
    refine ⟨fun i hi => Or.inl ?_, ⟨0, Nat.le_refl _, ?_⟩, fun i' h => absurd h (by omega)⟩
    · have : i = 0 := by omega
      simp [ins, upN, this]
    · simp [ins, upN]
  | k + 1, tp => by
    unfold ins
    split
    · obtain ⟨h1, h2, h3⟩ := ins_spec T j k (upN tp (k + 1) (tp k))
      refine ⟨fun i hi => ?_, ?_, fun i' hi' => ?_⟩
      · by_cases e : i = k + 1
        · refine Or.inr ⟨k, by omega, ?_⟩
          rw [e, ins_hi T j k _ (k + 1) (by omega)]
          simp [upN]
        · rcases h1 i (by omega) with h | ⟨i', h4, h5⟩
          · exact Or.inl h
          · refine Or.inr ⟨i', by omega, ?_⟩
            rw [h5]
            simp [upN]
            omega
      · obtain ⟨i, h4, h5⟩ := h2
        exact ⟨i, by omega, h5⟩
      · by_cases e : i' = k
        · refine ⟨k + 1, Nat.le_refl _, ?_⟩
          rw [ins_hi T j k _ (k + 1) (by omega), e]
          simp [upN]
        · obtain ⟨i, h4, h5⟩ := h3 i' (by omega)
          refine ⟨i, by omega, ?_⟩
          rw [h5]
          simp [upN]
          omega
    · refine ⟨fun i hi => ?_, ⟨k + 1, Nat.le_refl _, by simp [upN]⟩, fun i' hi' => ⟨i', by omega, by simp [upN]; omega⟩⟩
      by_cases e : i = k + 1
      · exact Or.inl (by simp [upN, e])
      · exact Or.inr ⟨i, by omega, by simp [upN]; omega⟩
theorem tf_le (T : XT) : ∀ j, (tf T j).1 ≤ j
  | 0 => Nat.le_refl _
  | j + 1 => by
    have := tf_le T j
    unfold tf
    split
    · show (tf T j).1 + 1 ≤ j + 1
      omega
    · omega
theorem tf_lt (T : XT) : ∀ j k, k < (tf T j).1 → (tf T j).2 k < j
  | 0, k, h => absurd h (Nat.not_lt_zero k)
  | j + 1, k, h => by
    have ih := tf_lt T j
    unfold tf at h ⊢
    split
    · rename_i ht
      rw [if_pos ht] at h
      have h' : k < (tf T j).1 + 1 := h
      show ins T j (tf T j).1 (tf T j).2 k < j + 1
      rcases (ins_spec T j (tf T j).1 (tf T j).2).1 k (by omega) with e | ⟨i', h1, h2⟩
      · omega
      · have := ih i' h1
        omega
    · rename_i ht
      rw [if_neg ht] at h
      have := ih k h
      omega
theorem tf_has (T : XT) : ∀ j i, i < j → topB T i = true → ∃ k, k < (tf T j).1 ∧ (tf T j).2 k = i
  | 0, i, h, _ => absurd h (by omega)
  | j + 1, i, h, ht => by
    unfold tf
    split
    · obtain ⟨-, h2, h3⟩ := ins_spec T j (tf T j).1 (tf T j).2
      by_cases e : i = j
      · obtain ⟨k, h4, h5⟩ := h2
        exact ⟨k, Nat.lt_succ_of_le h4, by rw [e]; exact h5⟩
      · obtain ⟨k, h4, h5⟩ := tf_has T j i (by omega) ht
        obtain ⟨k', h6, h7⟩ := h3 k h4
        exact ⟨k', Nat.lt_succ_of_le h6, by rw [← h5]; exact h7⟩
    · rename_i hn
      have e : i ≠ j := fun e => hn (by rw [← e]; exact ht)
      exact tf_has T j i (by omega) ht
def sumM (m : Mk) : Nat := m 0 + m 1 + m 2 + m 3 + m 4
theorem sum_le {a b : Mk} (h : leM a b = true) : sumM a ≤ sumM b := by
  have h1 := leM_iff.mp h
  have := h1 0 (by omega)
  have := h1 1 (by omega)
  have := h1 2 (by omega)
  have := h1 3 (by omega)
  have := h1 4 (by omega)
  unfold sumM
  omega
theorem sum_eq {a b : Mk} (h : leM a b = true) (hs : sumM b ≤ sumM a) : leM b a = true := by
  have h1 := leM_iff.mp h
  have := h1 0 (by omega)
  have := h1 1 (by omega)
  have := h1 2 (by omega)
  have := h1 3 (by omega)
  have := h1 4 (by omega)
  unfold sumM at hs
  apply leM_iff.mpr
  intro p hp
  rcases (by omega : p = 0 ∨ p = 1 ∨ p = 2 ∨ p = 3 ∨ p = 4) with e | e | e | e | e <;> subst e <;> omega
theorem top_above (T : XT) (B : Nat) (hB : ∀ j, j < tn T → sumM (tm T j) ≤ B) : ∀ (n j : Nat), j < tn T → B - sumM (tm T j) ≤ n → ∃ k, k < tn T ∧ leM (tm T j) (tm T k) = true ∧ topB T k = true := by
  intro n
  induction n using Nat.strongRecOn with
  | ind n ih =>
    intro j hj hn
    by_cases hx : ∃ o, o < tn T ∧ leM (tm T j) (tm T o) = true ∧ sumM (tm T j) < sumM (tm T o)
    · obtain ⟨o, h1, h2, h3⟩ := hx
      have hb := hB o h1
      obtain ⟨k, k1, k2, k3⟩ := ih (B - sumM (tm T o)) (by omega) o h1 (Nat.le_refl _)
      exact ⟨k, k1, leM_trans h2 k2, k3⟩
    · have hx2 : ∀ o, o < tn T → leM (tm T j) (tm T o) = true → sumM (tm T o) ≤ sumM (tm T j) := fun o h1 h2 => Nat.le_of_not_lt (fun h3 => hx ⟨o, h1, h2, h3⟩)
      obtain ⟨k, ⟨k1, k2⟩, k3⟩ := pk_least (fun k => k < tn T ∧ leM (tm T j) (tm T k) = true) ⟨j, hj, leM_refl _⟩
      refine ⟨k, k1, k2, ?_⟩
      unfold topB
      rw [xall_iff]
      intro o ho
      cases hle : leM (tm T k) (tm T o) with
      | false => rfl
      | true =>
        have hjo := leM_trans k2 hle
        have hko : k ≤ o := Nat.le_of_not_lt (fun h => k3 o h ⟨ho, hjo⟩)
        have s1 := hx2 o ho hjo
        have s2 := sum_le k2
        have := sum_eq hle (by omega)
        simp [this, hko]
theorem covers_eq {P : Nat} {T : XT} (hT : TOK P T) (g : Mk) : (∃ k, k < (tf T (tn T)).1 ∧ leM g (tm T ((tf T (tn T)).2 k)) = true) ↔ ∃ j, j < tn T ∧ leM g (tm T j) = true := by
  constructor
  · rintro ⟨k, h1, h2⟩
    exact ⟨_, tf_lt T (tn T) k h1, h2⟩
  · rintro ⟨j, h1, h2⟩
    have hn := hT.1
    have hb : ∀ j, j < tn T → sumM (tm T j) ≤ 5 * OM := fun j hj => by
      have h := (hT.2 j hj).2.le (by omega)
      have := h 0
      have := h 1
      have := h 2
      have := h 3
      have := h 4
      unfold sumM
      omega
    obtain ⟨k, k1, k2, k3⟩ := top_above T (5 * OM) hb _ j h1 (Nat.le_refl _)
    obtain ⟨i, i1, i2⟩ := tf_has T (tn T) k k1 k3
    refine ⟨i, i1, ?_⟩
    rw [i2]
    exact leM_trans h2 k2
def mx (T : XT) (p : Nat) : Nat → Nat
  | 0 => 0
  | k + 1 => max (mx T p k) (tm T k p)
end
section
/-! CoverRounds: the tree -/
def tX (T : XT) (σ : XS) : Prop := σ 18 0 = nI (tn T) ∧ (∀ j, j < tn T → mkAt (σ 16) (5 * j) (tm T j)) ∧ ∀ j, j < tn T → σ 17 j = aI (ta T j)
theorem tX.fr {T : XT} {S : List Nat} {σ τ : XS} (h : tX T σ) (hf : frm S σ τ) (h1 : 16 ∉ S) (h2 : 17 ∉ S) (h3 : 18 ∉ S) : tX T τ := by
  refine ⟨?_, ?_, ?_⟩
  · rw [hf 18 h3]; exact h.1
  · rw [hf 16 h1]; exact h.2.1
  · rw [hf 17 h2]; exact h.2.2
theorem eqM_P {P : Nat} (hP : P ≤ 5) {a b : Mk} (h : ∀ p, P ≤ p → a p = b p) : xall P (fun p => decide (a p = b p)) = eqM a b := by
  apply Bool.eq_iff_iff.mpr
  rw [eqM_iff]
  simp only [xall_iff, decide_eq_true_eq]
  constructor
  · intro h1 p hp
    by_cases h2 : p < P
    · exact h1 p h2
    · exact h p (by omega)
  · intro h1 p hp
    exact h1 p (by omega)
theorem eqM_symm (a b : Mk) : eqM a b = eqM b a := by
  unfold eqM
  exact Bool.and_comm _ _
theorem m1_ne {u : Nat} (hu : u < 2 ^ 31) : ¬ nI u = -1 := by
  intro h
  have h1 := congrArg Int32.toInt h
  rw [nI_toInt hu] at h1
  have e : (-1 : Int32).toInt = -1 := by decide
  omega
theorem aI_i16 {o : Option Nat} (h : ∀ u, o = some u → u < 32768) : (aI o).toInt16.toInt32 = aI o := by
  cases o with
  | none => decide
  | some u => exact nI_i16 (h u rfl)
theorem c_x_isBelow (l : Launch) {σ : XS} {N : XNet} {j : Nat} {a w : Mk} (hN : NOK N) (h : RX N σ) (hj : j < 1000) (ha : mkAt (σ 16) (5 * j) a) (hw : mk0 (σ 13) w) (ba : ∀ p, a p ≤ OM) (bw : ∀ p, w p ≤ OM) (za : ∀ p, nP N ≤ p → a p = 0) (zw : ∀ p, nP N ≤ p → w p = 0) : XCi false l y_x_isBelow b_x_isBelow 6 .boolean 0 0 (fun q => [.ref (q 0), .int (nI j), .ref (q 13)]) σ (fun r σ' => r = bI (leM a w && !eqM a w) ∧ σ = σ') := by
  refine XCi.of (by decide) rfl (fun _ => rfl) (fun _ => rfl) (fun E q cA hEl C K R => ?_)
  have h5 := hN.1
  have hk2 : xk false 13 = 1 := rfl
  have hn2 : xlen false 13 = 5 := rfl
  have hO : (OM : Nat) = 1000000 := rfl
  refine x_iconst C (nI 1) rfl d_x_isBelow_0 ?_
  refine x_istore_n C 3 rfl rfl rfl d_x_isBelow_1 ?_
  dsimp only [xst]
  refine x_iconst C (nI 1) rfl d_x_isBelow_2 ?_
  refine x_istore C rfl rfl d_x_isBelow_3 ?_
  dsimp only [xst]
  refine x_iconst C (nI 0) rfl d_x_isBelow_5 ?_
  refine x_istore C rfl rfl d_x_isBelow_6 ?_
  dsimp only [xst]
  refine x_for (fun i => Wx E 8 [.ref (q 0), .int (nI j), .ref (q 13), .int (bI (xall i (fun p => decide (a p ≤ w p)))), .int (bI (xall i (fun p => decide (a p = w p)))), .int (nI i)] [] σ) (nP N) (fun i hi ih => ?_) 0 (Nat.zero_le _)
  refine x_iload C rfl d_x_isBelow_8 ?_
  refine x_aload_n C rfl d_x_isBelow_10 ?_
  refine x_getv C K 0 rfl rfl h.1 d_x_isBelow_11 ?_
  refine x_icmpN_ge C (by omega) (by omega) d_x_isBelow_14 (fun z => ?_) (fun z => ?_)
  · have e : i = nP N := by omega
    subst e
    rw [leM_P h5 (fun p h1 _ => by rw [za p h1]; exact Nat.zero_le _), eqM_P h5 (fun p h1 => by rw [za p h1, zw p h1])]
    refine x_iload_n C rfl d_x_isBelow_77 ?_
    refine x_ifB_eq C d_x_isBelow_78 (fun z1 => ?_) (fun z1 => ?_)
    · refine x_iconst C (nI 0) rfl d_x_isBelow_90 ?_
      exact R (bI_nar false) ⟨by rw [z1]; rfl, rfl⟩ d_x_isBelow_91
    · refine x_iload C rfl d_x_isBelow_81 ?_
      refine x_ifB_ne C d_x_isBelow_83 (fun z2 => ?_) (fun z2 => ?_)
      · refine x_iconst C (nI 0) rfl d_x_isBelow_90 ?_
        exact R (bI_nar false) ⟨by rw [z1, z2]; rfl, rfl⟩ d_x_isBelow_91
      · refine x_iconst C (nI 1) rfl d_x_isBelow_86 ?_
        refine x_goto C d_x_isBelow_87 ?_
        exact R (bI_nar true) ⟨by rw [z1, z2]; rfl, rfl⟩ d_x_isBelow_91
  · have b1 := ba i
    have b2 := bw i
    refine x_iload_n C rfl d_x_isBelow_17 ?_
    refine x_aload_n C rfl d_x_isBelow_18 ?_
    refine x_geta C K 16 rfl (by decide) d_x_isBelow_19 ?_
    refine x_iconst C (nI 5) rfl d_x_isBelow_22 ?_
    refine x_iload_n C rfl d_x_isBelow_23 ?_
    refine x_imulN C d_x_isBelow_24 ?_
    refine x_iload C rfl d_x_isBelow_25 ?_
    refine x_iaddN C d_x_isBelow_27 ?_
    refine x_iald C K (k := 16) (N := 5000) rfl rfl (by omega) (ha i (by omega)) d_x_isBelow_28 ?_
    refine x_aload_n C rfl d_x_isBelow_29 ?_
    refine x_iload C rfl d_x_isBelow_30 ?_
    refine x_iald C K hk2 hn2 (by omega) (hw i (by omega)) d_x_isBelow_32 ?_
    refine x_cmpB_gt C (by omega) (by omega) d_x_isBelow_33 d_x_isBelow_36 d_x_isBelow_37 d_x_isBelow_40 ?_
    refine x_iandB C d_x_isBelow_41 ?_
    refine x_istore_n C 3 rfl rfl rfl d_x_isBelow_42 ?_
    dsimp only [xst]
    refine x_iload C rfl d_x_isBelow_43 ?_
    refine x_aload_n C rfl d_x_isBelow_45 ?_
    refine x_geta C K 16 rfl (by decide) d_x_isBelow_46 ?_
    refine x_iconst C (nI 5) rfl d_x_isBelow_49 ?_
    refine x_iload_n C rfl d_x_isBelow_50 ?_
    refine x_imulN C d_x_isBelow_51 ?_
    refine x_iload C rfl d_x_isBelow_52 ?_
    refine x_iaddN C d_x_isBelow_54 ?_
    refine x_iald C K (k := 16) (N := 5000) rfl rfl (by omega) (ha i (by omega)) d_x_isBelow_55 ?_
    refine x_aload_n C rfl d_x_isBelow_56 ?_
    refine x_iload C rfl d_x_isBelow_57 ?_
    refine x_iald C K hk2 hn2 (by omega) (hw i (by omega)) d_x_isBelow_59 ?_
    refine x_cmpB_ne C (by omega) (by omega) d_x_isBelow_60 d_x_isBelow_63 d_x_isBelow_64 d_x_isBelow_67 ?_
    refine x_iandB C d_x_isBelow_68 ?_
    refine x_istore C rfl rfl d_x_isBelow_69 ?_
    dsimp only [xst]
    refine x_iincN (b := 1) C rfl rfl d_x_isBelow_71 ?_
    dsimp only [xst]
    refine x_goto C d_x_isBelow_74 ?_
    exact ih z
theorem c_x_isAt (l : Launch) {σ : XS} {N : XNet} {i j : Nat} {a b : Mk} (hN : NOK N) (h : RX N σ) (hi : i < 1000) (hj : j < 1000) (ha : mkAt (σ 16) (5 * i) a) (hb : mkAt (σ 16) (5 * j) b) (ba : ∀ p, a p ≤ OM) (bb : ∀ p, b p ≤ OM) (za : ∀ p, nP N ≤ p → a p = 0) (zb : ∀ p, nP N ≤ p → b p = 0) : XCi false l y_x_isAt b_x_isAt 5 .boolean 0 0 (fun q => [.ref (q 0), .int (nI i), .int (nI j)]) σ (fun r σ' => r = bI (eqM a b) ∧ σ = σ') := by
  refine XCi.of (by decide) rfl (fun _ => rfl) (fun _ => rfl) (fun E q cA hEl C K R => ?_)
  have h5 := hN.1
  have hO : (OM : Nat) = 1000000 := rfl
  refine x_iconst C (nI 1) rfl d_x_isAt_0 ?_
  refine x_istore_n C 3 rfl rfl rfl d_x_isAt_1 ?_
  dsimp only [xst]
  refine x_iconst C (nI 0) rfl d_x_isAt_2 ?_
  refine x_istore C rfl rfl d_x_isAt_3 ?_
  dsimp only [xst]
  refine x_for (fun k => Wx E 5 [.ref (q 0), .int (nI i), .int (nI j), .int (bI (xall k (fun p => decide (a p = b p)))), .int (nI k)] [] σ) (nP N) (fun k hk ih => ?_) 0 (Nat.zero_le _)
  refine x_iload C rfl d_x_isAt_5 ?_
  refine x_aload_n C rfl d_x_isAt_7 ?_
  refine x_getv C K 0 rfl rfl h.1 d_x_isAt_8 ?_
  refine x_icmpN_ge C (by omega) (by omega) d_x_isAt_11 (fun z => ?_) (fun z => ?_)
  · have e : k = nP N := by omega
    subst e
    rw [eqM_P h5 (fun p h1 => by rw [za p h1, zb p h1])]
    refine x_iload_n C rfl d_x_isAt_53 ?_
    exact R (bI_nar _) ⟨rfl, rfl⟩ d_x_isAt_54
  · have b1 := ba k
    have b2 := bb k
    refine x_iload_n C rfl d_x_isAt_14 ?_
    refine x_aload_n C rfl d_x_isAt_15 ?_
    refine x_geta C K 16 rfl (by decide) d_x_isAt_16 ?_
    refine x_iconst C (nI 5) rfl d_x_isAt_19 ?_
    refine x_iload_n C rfl d_x_isAt_20 ?_
    refine x_imulN C d_x_isAt_21 ?_
    refine x_iload C rfl d_x_isAt_22 ?_
    refine x_iaddN C d_x_isAt_24 ?_
    refine x_iald C K (k := 16) (N := 5000) rfl rfl (by omega) (ha k (by omega)) d_x_isAt_25 ?_
    refine x_aload_n C rfl d_x_isAt_26 ?_
    refine x_geta C K 16 rfl (by decide) d_x_isAt_27 ?_
    refine x_iconst C (nI 5) rfl d_x_isAt_30 ?_
    refine x_iload_n C rfl d_x_isAt_31 ?_
    refine x_imulN C d_x_isAt_32 ?_
    refine x_iload C rfl d_x_isAt_33 ?_
    refine x_iaddN C d_x_isAt_35 ?_
    refine x_iald C K (k := 16) (N := 5000) rfl rfl (by omega) (hb k (by omega)) d_x_isAt_36 ?_
    refine x_cmpB_ne C (by omega) (by omega) d_x_isAt_37 d_x_isAt_40 d_x_isAt_41 d_x_isAt_44 ?_
    refine x_iandB C d_x_isAt_45 ?_
    refine x_istore_n C 3 rfl rfl rfl d_x_isAt_46 ?_
    dsimp only [xst]
    refine x_iincN (b := 1) C rfl rfl d_x_isAt_47 ?_
    dsimp only [xst]
    refine x_goto C d_x_isAt_50 ?_
    exact ih z
def opN (o : Option Nat) : Nat := match o with
  | none => 0
  | some u => u + 1
theorem c_x_isAgain (l : Launch) {σ : XS} {N : XNet} {T : XT} {j : Nat} (hN : NOK N) (h : RX N σ) (hT : TOK (nP N) T) (hX : tX T σ) (hn : tn T ≤ 1000) (hj : j < tn T) : XCi false l y_x_isAgain b_x_isAgain 3 .boolean 1 30 (fun q => [.ref (q 0), .int (nI j)]) σ (fun r σ' => r = bI (agn T j) ∧ σ = σ') := by
  refine XCi.of (by decide) rfl (fun _ => rfl) (fun _ => rfl) (fun E q cA hEl C K R => ?_)
  subst hEl
  have oj := (hT.2 j hj).2
  refine x_aload_n C rfl d_x_isAgain_0 ?_
  refine x_geta C K 17 rfl (by decide) d_x_isAgain_1 ?_
  refine x_iload_n C rfl d_x_isAgain_4 ?_
  refine x_sald C K (k := 17) (N := 1000) rfl rfl (by omega) (hX.2.2 j hj) d_x_isAgain_5 ?_
  refine x_istore_n C 2 rfl rfl rfl d_x_isAgain_6 ?_
  dsimp only [xst]
  refine x_while (fun o => Wx E 7 [.ref (q 0), .int (nI j), .int (aI o)] [] σ) (fun o => (∀ u, o = some u → u < tn T) ∧ agn T j = (chn T o).any (fun u => eqM (tm T u) (tm T j))) opN (fun o hI ih => ?_) (ta T j) ⟨fun u hu => by have := (hT.2 j hj).1 u hu; omega, rfl⟩
  obtain ⟨i1, i2⟩ := hI
  match o, i1, i2, ih with
  | none, i1, i2, ih =>
    refine x_iload_n C rfl d_x_isAgain_7 ?_
    refine x_iconst C (-1) rfl d_x_isAgain_8 ?_
    refine x_icmp_eq C d_x_isAgain_9 (fun _ => ?_) (fun z => absurd rfl z)
    refine x_iload_n C rfl d_x_isAgain_31 ?_
    refine x_iconst C (-1) rfl d_x_isAgain_32 ?_
    refine x_icmp_eq C d_x_isAgain_33 (fun _ => ?_) (fun z => absurd rfl z)
    refine x_iconst C (nI 0) rfl d_x_isAgain_40 ?_
    exact R (bI_nar false) ⟨by rw [i2]; rfl, rfl⟩ d_x_isAgain_41
  | some u, i1, i2, ih =>
    have hu := i1 u rfl
    have ou := (hT.2 u hu).2
    refine x_iload_n C rfl d_x_isAgain_7 ?_
    refine x_iconst C (-1) rfl d_x_isAgain_8 ?_
    refine x_icmp_eq C d_x_isAgain_9 (fun z => absurd z (m1_ne (by omega))) (fun _ => ?_)
    refine x_aload_n C rfl d_x_isAgain_12 ?_
    refine x_iload_n C rfl d_x_isAgain_13 ?_
    refine x_iload_n C rfl d_x_isAgain_14 ?_
    refine x_callVi C K s_x_138 (c_x_isAt (e_l E) (i := u) (j := j) hN h (by omega) (by omega) (hX.2.1 u hu) (hX.2.1 j hj) (ou.le (by omega)) (oj.le (by omega)) ou.2 oj.2) rfl rfl rfl rfl rfl rfl d_x_isAgain_15 (fun r σ' hr => ?_)
    obtain ⟨rfl, rfl⟩ := hr
    refine x_ifB_ne C d_x_isAgain_18 (fun z => ?_) (fun z => ?_)
    · refine x_iload_n C rfl d_x_isAgain_31 ?_
      refine x_iconst C (-1) rfl d_x_isAgain_32 ?_
      refine x_icmp_eq C d_x_isAgain_33 (fun z2 => absurd z2 (m1_ne (by omega))) (fun _ => ?_)
      refine x_iconst C (nI 1) rfl d_x_isAgain_36 ?_
      refine x_goto C d_x_isAgain_37 ?_
      exact R (bI_nar true) ⟨by rw [i2, chn_some hT hu, List.any_cons, z]; rfl, rfl⟩ d_x_isAgain_41
    · refine x_aload_n C rfl d_x_isAgain_21 ?_
      refine x_geta C K 17 rfl (by decide) d_x_isAgain_22 ?_
      refine x_iload_n C rfl d_x_isAgain_25 ?_
      refine x_sald C K (k := 17) (N := 1000) rfl rfl (by omega) (hX.2.2 u hu) d_x_isAgain_26 ?_
      refine x_istore_n C 2 rfl rfl rfl d_x_isAgain_27 ?_
      dsimp only [xst]
      refine x_goto C d_x_isAgain_28 ?_
      refine ih (ta T u) ?_ ⟨fun v hv => by have := (hT.2 u hu).1 v hv; omega, ?_⟩
      · cases e : ta T u with
        | none => exact Nat.succ_pos _
        | some v => exact Nat.succ_lt_succ ((hT.2 u hu).1 v e)
      · rw [i2, chn_some hT hu, List.any_cons, z, Bool.false_or]
def grw (a z : Mk) : Mk := fun p => if a p < z p ∧ z p ≠ OM then OM else z p
def grB (a z : Mk) (p : Nat) : Bool := decide (a p < z p) && !decide (z p = OM)
theorem grw_acc {a z : Mk} (h : leM a z = true) (hz : ∀ p, z p ≤ OM) : acc1 a z = grw a z := by
  rw [acc1, if_pos h]
  funext p
  show (if a p < z p then OM else z p) = (if a p < z p ∧ z p ≠ OM then OM else z p)
  by_cases h1 : a p < z p
  · by_cases h2 : z p = OM
    · rw [if_pos h1, if_neg (fun hh => hh.2 h2), h2]
    · rw [if_pos h1, if_pos ⟨h1, h2⟩]
  · rw [if_neg h1, if_neg (fun hh => h1 hh.1)]
theorem grw_0 {P : Nat} {a z : Mk} (h0 : ∀ p, P ≤ p → z p = 0) : ∀ p, P ≤ p → grw a z p = 0 := fun p hp => by
  show (if a p < z p ∧ z p ≠ OM then OM else z p) = 0
  rw [if_neg (by rw [h0 p hp]; omega)]
  exact h0 p hp
theorem grw_no {P : Nat} {a z : Mk} (h0 : ∀ p, P ≤ p → z p = 0) (h : xany P (grB a z) = false) : grw a z = z := by
  funext p
  show (if a p < z p ∧ z p ≠ OM then OM else z p) = z p
  by_cases hp : p < P
  · rw [if_neg]
    intro hh
    have : xany P (grB a z) = true := xany_iff.mpr ⟨p, hp, by simp [grB, hh.1, hh.2]⟩
    rw [this] at h
    cases h
  · rw [if_neg (by rw [h0 p (by omega)]; omega)]
theorem grw_cnt {P : Nat} (hP : P ≤ 5) {a z : Mk} (h : xany P (grB a z) = true) : cntO (grw a z) < cntO z := by
  obtain ⟨p, hp, hg⟩ := xany_iff.mp h
  simp only [grB, Bool.and_eq_true, decide_eq_true_eq, Bool.not_eq_true', decide_eq_false_iff_not] at hg
  refine cnt_lt (fun i => ?_) (p := p) (by omega) hg.2 ?_
  · show (if a i < z i ∧ z i ≠ OM then OM else z i) = z i ∨ (if a i < z i ∧ z i ≠ OM then OM else z i) = OM
    split
    · exact Or.inr rfl
    · exact Or.inl rfl
  · exact if_pos hg
theorem nb_fix {P : Nat} {a z : Mk} (hP : P ≤ 5) (z0 : ∀ p, P ≤ p → z p = 0) (h : (leM a z && !eqM a z) = false) : acc1 a z = z := by
  by_cases h1 : leM a z = true
  · rw [h1, Bool.true_and, Bool.not_eq_false'] at h
    have he := eqM_iff.mp h
    rw [acc1, if_pos h1]
    funext p
    show (if a p < z p then OM else z p) = z p
    by_cases hp : p < 5
    · rw [if_neg (by rw [he p hp]; omega)]
    · rw [if_neg (by rw [z0 p (by omega)]; omega)]
  · rw [acc1, if_neg h1]
theorem c_x_grows (l : Launch) {σ : XS} {N : XNet} {j : Nat} {a z : Mk} (hN : NOK N) (h : RX N σ) (hj : j < 1000) (ha : mkAt (σ 16) (5 * j) a) (hz : mk0 (σ 13) z) (ba : ∀ p, a p ≤ OM) (bz : ∀ p, z p ≤ OM) (zz : ∀ p, nP N ≤ p → z p = 0) : XCi false l y_x_grows b_x_grows 4 .boolean 0 0 (fun q => [.ref (q 0), .int (nI j)]) σ (fun r σ' => r = bI (xany (nP N) (grB a z)) ∧ ∃ f, σ' = va_up σ 13 f ∧ mk0 f (grw a z)) := by
  refine XCi.of (by decide) rfl (fun _ => rfl) (fun _ => rfl) (fun E q cA hEl C K R => ?_)
  have h5 := hN.1
  have hO : (OM : Nat) = 1000000 := rfl
  refine x_iconst C (nI 0) rfl d_x_grows_0 ?_
  refine x_istore_n C 2 rfl rfl rfl d_x_grows_1 ?_
  dsimp only [xst]
  refine x_iconst C (nI 0) rfl d_x_grows_2 ?_
  refine x_istore_n C 3 rfl rfl rfl d_x_grows_3 ?_
  dsimp only [xst]
  have key := x_forS (fun i f => Wx E 4 [.ref (q 0), .int (nI j), .int (bI (xany i (grB a z))), .int (nI i)] [] (va_up σ 13 f)) (fun i f => (∀ p, p < i → f p = nI (grw a z p)) ∧ ∀ p, i ≤ p → p < 5 → f p = nI (z p)) (nP N) (fun i f hi hI ih => ?_) 0 (σ 13) (Nat.zero_le _) ⟨fun p hp => absurd hp (by omega), fun p _ hp => hz p hp⟩
  · rw [xueq] at key
    exact key
  · refine x_iload_n C rfl d_x_grows_4 ?_
    refine x_aload_n C rfl d_x_grows_5 ?_
    refine x_getv C K 0 rfl rfl h.1 d_x_grows_6 ?_
    refine x_icmpN_ge C (by omega) (by omega) d_x_grows_9 (fun zz1 => ?_) (fun z1 => ?_)
    · have e : i = nP N := by omega
      subst e
      refine x_iload_n C rfl d_x_grows_58 ?_
      refine R (bI_nar _) ⟨rfl, f, rfl, fun p hp => ?_⟩ d_x_grows_59
      by_cases e : p < nP N
      · exact hI.1 p e
      · rw [hI.2 p (by omega) hp, grw_0 zz p (by omega), zz p (by omega)]
    · have b1 := ba i
      have b2 := bz i
      have hv := hI.2 i (Nat.le_refl _) (by omega)
      have same : grB a z i = false → Wx E 52 [.ref (q 0), .int (nI j), .int (bI (xany i (grB a z))), .int (nI i)] [] (va_up σ 13 f) := by
        intro hg
        have e1 : grw a z i = z i := by
          show (if a i < z i ∧ z i ≠ OM then OM else z i) = z i
          rw [if_neg]
          intro hh
          simp [grB, hh.1, hh.2] at hg
        refine x_iincN (b := 1) C rfl rfl d_x_grows_52 ?_
        dsimp only [xst]
        refine x_goto C d_x_grows_55 ?_
        have := ih f z1 ⟨fun p hp => ?_, fun p h1 h2 => hI.2 p (by omega) h2⟩
        · rw [show xany (i + 1) (grB a z) = xany i (grB a z) by rw [xany, hg, Bool.or_false]] at this
          exact this
        · by_cases e : p = i
          · rw [e, e1]; exact hv
          · exact hI.1 p (by omega)
      refine x_aload_n C rfl d_x_grows_12 ?_
      refine x_geta C K 16 rfl (by decide) d_x_grows_13 ?_
      refine x_iconst C (nI 5) rfl d_x_grows_16 ?_
      refine x_iload_n C rfl d_x_grows_17 ?_
      refine x_imulN C d_x_grows_18 ?_
      refine x_iload_n C rfl d_x_grows_19 ?_
      refine x_iaddN C d_x_grows_20 ?_
      refine x_iald C K (k := 16) (N := 5000) rfl rfl (by omega) (ha i (by omega)) d_x_grows_21 ?_
      refine x_aload_n C rfl d_x_grows_22 ?_
      refine x_geta C K 13 rfl (by decide) d_x_grows_23 ?_
      refine x_iload_n C rfl d_x_grows_26 ?_
      refine x_iald C K (k := 13) (N := 5) rfl rfl (by omega) hv d_x_grows_27 ?_
      refine x_icmpN_ge C (by omega) (by omega) d_x_grows_28 (fun z2 => same (by simp [grB]; omega)) (fun z2 => ?_)
      refine x_aload_n C rfl d_x_grows_31 ?_
      refine x_geta C K 13 rfl (by decide) d_x_grows_32 ?_
      refine x_iload_n C rfl d_x_grows_35 ?_
      refine x_iald C K (k := 13) (N := 5) rfl rfl (by omega) hv d_x_grows_36 ?_
      refine x_ldc C (nI 1000000) tb_cx148 rfl d_x_grows_37 ?_
      refine x_icmpN_eq C (by omega) (by omega) d_x_grows_39 (fun z3 => same (by simp [grB]; intro _; exact z3)) (fun z3 => ?_)
      have hg : grB a z i = true := by simp [grB, z2]; exact z3
      have e1 : grw a z i = OM := if_pos ⟨z2, z3⟩
      refine x_aload_n C rfl d_x_grows_42 ?_
      refine x_geta C K 13 rfl (by decide) d_x_grows_43 ?_
      refine x_iload_n C rfl d_x_grows_46 ?_
      refine x_ldc C (nI 1000000) tb_cx148 rfl d_x_grows_47 ?_
      refine x_iast C K (k := 13) (N := 5) rfl rfl (by omega) d_x_grows_49 ?_
      refine x_iconst C (nI 1) rfl d_x_grows_50 ?_
      refine x_istore_n C 2 rfl rfl rfl d_x_grows_51 ?_
      dsimp only [xst]
      refine x_iincN (b := 1) C rfl rfl d_x_grows_52 ?_
      dsimp only [xst]
      refine x_goto C d_x_grows_55 ?_
      rw [xuu, xus]
      have := ih (upd f i (nI OM)) z1 ⟨fun p hp => ?_, fun p h1 h2 => ?_⟩
      · rw [show xany (i + 1) (grB a z) = true by rw [xany, hg, Bool.or_true]] at this
        exact this
      · by_cases e : p = i
        · rw [e, e1, upd_s]
        · rw [upd_n _ _ e]; exact hI.1 p (by omega)
      · rw [upd_n _ _ (by omega)]; exact hI.2 p (by omega) h2
theorem c_x_accelerate (l : Launch) {σ : XS} {N : XNet} {T : XT} {j : Nat} {w : Mk} (hN : NOK N) (h : RX N σ) (hT : TOK (nP N) T) (hX : tX T σ) (hn : tn T ≤ 1000) (hj : j < tn T) (hw : mk0 (σ 13) w) (bw : ∀ p, w p ≤ OM) (zw : ∀ p, nP N ≤ p → w p = 0) : XCv false l y_x_accelerate b_x_accelerate 3 1 30 (fun q => [.ref (q 0), .int (nI j)]) σ (fun σ' => ∃ f, σ' = va_up σ 13 f ∧ mk0 f (Acc (cM T (some j)) w)) := by
  refine XCv.of (by decide) rfl (fun _ => rfl) (fun _ => rfl) (fun E q cA hEl C K R => ?_)
  subst hEl
  have h5 := hN.1
  refine x_iload_n C rfl d_x_accelerate_0 ?_
  refine x_istore_n C 2 rfl rfl rfl d_x_accelerate_1 ?_
  dsimp only [xst]
  have key := x_while (fun (s : Mk × Option Nat × (Nat → Int32)) => Wx E 2 [.ref (q 0), .int (nI j), .int (aI s.2.1)] [] (va_up σ 13 s.2.2)) (fun s => accI (cM T (some j)) w s.1 ∧ mk0 s.2.2 s.1 ∧ (∀ p, nP N ≤ p → s.1 p = 0) ∧ (∀ u, s.2.1 = some u → u < tn T) ∧ ∃ pre, chn T (some j) = pre ++ chn T s.2.1 ∧ ∀ u, u ∈ pre → acc1 (tm T u) s.1 = s.1) (fun s => cntO s.1 * 2000 + opN s.2.1) (fun s hI ih => ?_) (w, some j, σ 13) ⟨accI.rf _ _, hw, zw, fun u hu => by cases hu; exact hj, [], rfl, fun u hu => by cases hu⟩
  · rw [xueq] at key
    exact key
  · obtain ⟨z, o, f⟩ := s
    obtain ⟨i1, i2, i3, i4, pre, i5, i6⟩ := hI
    dsimp only at i1 i2 i3 i4 i5 i6 ih ⊢
    have bz := i1.le bw
    cases o with
    | none =>
      refine x_iload_n C rfl d_x_accelerate_2 ?_
      refine x_iconst C (-1) rfl d_x_accelerate_3 ?_
      refine x_icmp_eq C d_x_accelerate_4 (fun _ => ?_) (fun z => absurd rfl z)
      refine R ⟨f, rfl, ?_⟩ d_x_accelerate_42
      have hA : isAcc (cM T (some j)) w z := by
        refine ⟨i1, fun a ha => ?_⟩
        obtain ⟨u, hu, rfl⟩ := List.mem_map.mp ha
        rw [i5] at hu
        rcases List.mem_append.mp hu with h1 | h1
        · exact i6 u h1
        · cases h1
      rw [Acc_eq bw hA]
      exact i2
    | some u =>
      have hu := i4 u rfl
      have ou := (hT.2 u hu).2
      have humem : u ∈ chn T (some j) := by rw [i5, chn_some hT hu]; simp
      have up1 : ∀ f', mk0 f' z → acc1 (tm T u) z = z → Wx E 32 [.ref (q 0), .int (nI j), .int (nI u)] [] (va_up σ 13 f') := by
        intro f' hf' hfix
        refine x_aload_n C rfl d_x_accelerate_32 ?_
        refine x_geta C K 17 rfl (by decide) d_x_accelerate_33 ?_
        refine x_iload_n C rfl d_x_accelerate_36 ?_
        refine x_sald C K (k := 17) (N := 1000) rfl rfl (by omega) (hX.2.2 u hu) d_x_accelerate_37 ?_
        refine x_istore_n C 2 rfl rfl rfl d_x_accelerate_38 ?_
        dsimp only [xst]
        refine x_goto C d_x_accelerate_39 ?_
        refine ih (z, ta T u, f') ?_ ⟨i1, hf', i3, fun v hv => by have := (hT.2 u hu).1 v hv; omega, pre ++ [u], ?_, fun v hv => ?_⟩
        · show cntO z * 2000 + opN (ta T u) < cntO z * 2000 + (u + 1)
          cases e : ta T u with
          | none => exact Nat.add_lt_add_left (Nat.succ_pos _) _
          | some v => exact Nat.add_lt_add_left (Nat.succ_lt_succ ((hT.2 u hu).1 v e)) _
        · rw [i5, chn_some hT hu]; simp
        · rcases List.mem_append.mp hv with h1 | h1
          · exact i6 v h1
          · rw [List.mem_singleton.mp h1]; exact hfix
      refine x_iload_n C rfl d_x_accelerate_2 ?_
      refine x_iconst C (-1) rfl d_x_accelerate_3 ?_
      refine x_icmp_eq C d_x_accelerate_4 (fun z2 => absurd z2 (m1_ne (by omega))) (fun _ => ?_)
      refine x_aload_n C rfl d_x_accelerate_7 ?_
      refine x_iload_n C rfl d_x_accelerate_8 ?_
      refine x_aload_n C rfl d_x_accelerate_9 ?_
      refine x_geta C K 13 rfl (by decide) d_x_accelerate_10 ?_
      refine x_callVi C K s_x_141 (c_x_isBelow (e_l E) (j := u) (a := tm T u) (w := z) hN h (by omega) (hX.2.1 u hu) i2 (ou.le (by omega)) bz ou.2 i3) rfl rfl rfl rfl rfl rfl d_x_accelerate_13 (fun r σ' hr => ?_)
      obtain ⟨rfl, rfl⟩ := hr
      refine x_ifB_eq C d_x_accelerate_16 (fun z1 => ?_) (fun z1 => ?_)
      · exact up1 f i2 (nb_fix h5 i3 z1)
      · have hle : leM (tm T u) z = true := by simp only [Bool.and_eq_true] at z1; exact z1.1
        refine x_aload_n C rfl d_x_accelerate_19 ?_
        refine x_iload_n C rfl d_x_accelerate_20 ?_
        refine x_callVi C K s_x_145 (c_x_grows (e_l E) (j := u) (a := tm T u) (z := z) hN h (by omega) (hX.2.1 u hu) i2 (ou.le (by omega)) bz i3) rfl rfl rfl rfl rfl rfl d_x_accelerate_21 (fun r σ' hr => ?_)
        obtain ⟨rfl, f', rfl, hf'⟩ := hr
        rw [xuu]
        refine x_ifB_eq C d_x_accelerate_24 (fun z2 => ?_) (fun z2 => ?_)
        · have e1 := grw_no i3 z2
          rw [e1] at hf'
          exact up1 f' hf' (by rw [grw_acc hle bz]; exact e1)
        · refine x_iload_n C rfl d_x_accelerate_27 ?_
          refine x_istore_n C 2 rfl rfl rfl d_x_accelerate_28 ?_
          dsimp only [xst]
          refine x_goto C d_x_accelerate_29 ?_
          have hc := grw_cnt h5 z2
          refine ih (grw (tm T u) z, some j, f') ?_ ⟨?_, hf', grw_0 i3, fun v hv => by cases hv; exact hj, [], rfl, fun v hv => by cases hv⟩
          · show cntO (grw (tm T u) z) * 2000 + (j + 1) < cntO z * 2000 + (u + 1)
            omega
          · rw [← grw_acc hle bz]
            exact i1.step (List.mem_map.mpr ⟨u, humem, rfl⟩) bz
theorem c_x_hang (l : Launch) {σ : XS} {n : Nat} {o : Option Nat} {w : Mk} (hn : n ≤ 1000) (h18 : σ 18 0 = nI n) (ho : ∀ u, o = some u → u < 32768) (hw : mk0 (σ 13) w) : XCi false l y_x_hang b_x_hang 2 .boolean 1 26 (fun q => [.ref (q 0), .int (aI o)]) σ (fun r σ' => (n = 1000 ∧ r = bI false ∧ σ = σ') ∨ (n < 1000 ∧ r = bI true ∧ frm [16, 17, 18] σ σ' ∧ σ' 18 0 = nI (n + 1) ∧ mkAt (σ' 16) (5 * n) w ∧ (∀ i, i < 5 * n → σ' 16 i = σ 16 i) ∧ σ' 17 n = aI o ∧ ∀ i, i < n → σ' 17 i = σ 17 i)) := by
  refine XCi.of (by decide) rfl (fun _ => rfl) (fun _ => rfl) (fun E q cA hEl C K R => ?_)
  refine x_aload_n C rfl d_x_hang_0 ?_
  refine x_getv C K 18 rfl rfl h18 d_x_hang_1 ?_
  refine x_sipush C (nI 1000) (by decide) d_x_hang_4 ?_
  refine x_icmpN_ne C (by omega) (by omega) d_x_hang_7 (fun z => ?_) (fun z => ?_)
  · refine x_aload_n C rfl d_x_hang_12 ?_
    refine x_geta C K 13 rfl (by decide) d_x_hang_13 ?_
    refine x_iconst C (nI 0) rfl d_x_hang_16 ?_
    refine x_aload_n C rfl d_x_hang_17 ?_
    refine x_geta C K 16 rfl (by decide) d_x_hang_18 ?_
    refine x_iconst C (nI 5) rfl d_x_hang_21 ?_
    refine x_aload_n C rfl d_x_hang_22 ?_
    refine x_getv C K 18 rfl rfl h18 d_x_hang_23 ?_
    refine x_imulN C d_x_hang_26 ?_
    refine x_iconst C (nI 5) rfl d_x_hang_27 ?_
    refine x_copy C K 1 (Or.inl rfl) rfl rfl (N0 := 5) (N1 := 5000) rfl rfl (by omega) (by omega) (fun _ _ => rfl) (by omega) (by omega) (by decide) d_x_hang_28 ?_
    refine x_aload_n C rfl d_x_hang_31 ?_
    refine x_geta C K 17 rfl (by decide) d_x_hang_32 ?_
    refine x_aload_n C rfl d_x_hang_35 ?_
    refine x_dup C rfl d_x_hang_36 ?_
    refine x_getv C K 18 rfl rfl h18 d_x_hang_37 ?_
    refine x_dup_x1 C rfl rfl d_x_hang_40 ?_
    refine x_iconst C (nI 1) rfl d_x_hang_41 ?_
    refine x_iaddN C d_x_hang_42 ?_
    refine x_puti C K 18 rfl rfl rfl d_x_hang_43 ?_
    refine x_iload_n C rfl d_x_hang_46 ?_
    refine x_i2s C _ (aI_i16 ho) d_x_hang_47 ?_
    refine x_sast C K (k := 17) (N := 1000) rfl rfl (by omega) (aI_i16 ho) d_x_hang_48 ?_
    refine x_iconst C (nI 1) rfl d_x_hang_49 ?_
    refine R (bI_nar true) (Or.inr ⟨by omega, rfl, (((frm.rf _ σ).up (by decide) _).up (by decide) _).up (by decide) _, rfl, fun p hp => ?_, fun i hi => ?_, ?_, fun i hi => ?_⟩) d_x_hang_50
    · show va_cpy (σ 13) (σ 16) 0 (5 * n) 5 (5 * n + p) = _
      rw [pk_cpy_in (by omega) (by omega)]
      rw [show 0 + (5 * n + p - 5 * n) = p by omega]
      exact hw p hp
    · show va_cpy (σ 13) (σ 16) 0 (5 * n) 5 i = _
      rw [pk_cpy_out (Or.inl (by omega))]
    · show upd (σ 17) n (aI o) n = _
      rw [upd_s]
    · show upd (σ 17) n (aI o) i = _
      rw [upd_n _ _ (by omega)]
  · refine x_iconst C (nI 0) rfl d_x_hang_10 ?_
    exact R (bI_nar false) (Or.inl ⟨z, rfl, rfl⟩) d_x_hang_11
end
section
def lvE (N : XNet) (T : XT) (j t : Nat) (B : Nat → Bool) : Nat → Bool := fun s => B s || (decide (s < t) && leM (ntk N s) (tm T j))
theorem lvE_0 {N : XNet} {T : XT} {j : Nat} {B : Nat → Bool} : lvI (lvE N T j 0 B) = lvI B := lvI_congr (fun t _ => by simp [lvE])
theorem lvE_s {N : XNet} {T : XT} {j t : Nat} {B : Nat → Bool} (ht : t < 6) (h : leM (ntk N t) (tm T j) = true) : lvI (lvE N T j t B) ||| (nI 1 <<< (nI t &&& 31)) = lvI (lvE N T j (t + 1) B) := by
  rw [lv_or _ t ht]
  apply lvI_congr
  intro s _
  simp only [lvE]
  by_cases e : s = t
  · subst e
    simp [h]
  · have : decide (s < t) = decide (s < t + 1) := by
      apply decide_eq_decide.mpr
      omega
    rw [this]
    simp [e]
theorem lvE_n {N : XNet} {T : XT} {j t : Nat} {B : Nat → Bool} (h : leM (ntk N t) (tm T j) = false) : lvI (lvE N T j t B) = lvI (lvE N T j (t + 1) B) := by
  apply lvI_congr
  intro s _
  simp only [lvE]
  by_cases e : s = t
  · subst e
    simp [h]
  · have : decide (s < t) = decide (s < t + 1) := by
      apply decide_eq_decide.mpr
      omega
    rw [this]
theorem exK_big {N : XNet} {T : XT} {j t : Nat} (h : 1000 < tn (exK N j t T)) : ∀ s, exK N j (t + s) T = exK N j t T
  | 0 => rfl
  | s + 1 => by
    have ih := exK_big h s
    show eT N j (t + s) (exK N j (t + s) T) = _
    rw [ih, eT, if_neg]
    simp only [canE, Bool.and_eq_true, decide_eq_true_eq]
    omega
theorem c_x_expand (l : Launch) {σ : XS} {N : XNet} {T : XT} {j : Nat} {B : Nat → Bool} (hN : NOK N) (h : RX N σ) (hT : TOK (nP N) T) (hX : tX T σ) (hn : tn T ≤ 1000) (hj : j < tn T) (hB : σ 23 0 = lvI B) : XCi false l y_x_expand b_x_expand 6 .boolean 2 60 (fun q => [.ref (q 0), .int (nI j)]) σ (fun r σ' => r = bI (decide (tn (exK N j (nT N) T) ≤ 1000)) ∧ frm [13, 16, 17, 18, 23] σ σ' ∧ (tn (exK N j (nT N) T) ≤ 1000 → tX (exK N j (nT N) T) σ' ∧ σ' 23 0 = lvI (lvE N T j (nT N) B))) := by
  refine XCi.of (by decide) rfl (fun _ => rfl) (fun _ => rfl) (fun E q cA hEl C K R => ?_)
  subst hEl
  have h6 := hN.2.1
  have hO : (OM : Nat) = 1000000 := rfl
  refine x_iconst C (nI 1) rfl d_x_expand_0 ?_
  refine x_istore_n C 2 rfl rfl rfl d_x_expand_1 ?_
  dsimp only [xst]
  refine x_iconst C (nI 0) rfl d_x_expand_2 ?_
  refine x_istore_n C 3 rfl rfl rfl d_x_expand_3 ?_
  dsimp only [xst]
  refine x_forS (fun t (s : Bool × XS) => Wx E 4 [.ref (q 0), .int (nI j), .int (bI s.1), .int (nI t)] [] s.2) (fun t s => s.1 = decide (tn (exK N j t T) ≤ 1000) ∧ frm [13, 16, 17, 18, 23] σ s.2 ∧ (tn (exK N j t T) ≤ 1000 → tX (exK N j t T) s.2 ∧ s.2 23 0 = lvI (lvE N T j t B))) (nT N) (fun t s ht hI ih => ?_) 0 (true, σ) (Nat.zero_le _) ⟨(decide_eq_true hn).symm, frm.rf _ _, fun _ => ⟨hX, by rw [lvE_0]; exact hB⟩⟩
  obtain ⟨b, τ⟩ := s
  obtain ⟨i1, f1, i2⟩ := hI
  dsimp only at i1 f1 i2 ⊢
  have hR : RX N τ := h.fr f1 (by decide)
  refine x_iload_n C rfl d_x_expand_4 ?_
  refine x_aload_n C rfl d_x_expand_5 ?_
  refine x_getv C K 1 rfl rfl hR.2.1 d_x_expand_6 ?_
  refine x_icmpN_ge C (by omega) (by omega) d_x_expand_9 (fun z => ?_) (fun z => ?_)
  · have e : t = nT N := by omega
    subst e
    refine x_iload_n C rfl d_x_expand_133 ?_
    exact R (bI_nar _) ⟨by rw [i1], f1, i2⟩ d_x_expand_134
  · refine x_iload_n C rfl d_x_expand_12 ?_
    refine x_ifB_eq C d_x_expand_13 (fun zb => ?_) (fun zb => ?_)
    · refine x_iload_n C rfl d_x_expand_133 ?_
      have hbig : 1000 < tn (exK N j t T) := by
        rw [zb] at i1
        have := of_decide_eq_false i1.symm
        omega
      have hst := exK_big hbig (nT N - t)
      rw [show t + (nT N - t) = nT N by omega] at hst
      refine R (bI_nar _) ⟨?_, f1, fun hh => ?_⟩ d_x_expand_134
      · rw [hst, i1]
      · rw [hst] at hh
        omega
    · have hle : tn (exK N j t T) ≤ 1000 := by
        rw [zb] at i1
        exact of_decide_eq_true i1.symm
      obtain ⟨x1, x2⟩ := i2 hle
      obtain ⟨o1, o2⟩ := exK_ok hN hT hj t
      obtain ⟨m1, -, -⟩ := exK_old hN hT hj hj t
      have eS : exK N j (t + 1) T = eT N j t (exK N j t T) := rfl
      rw [eS] at ih
      generalize hTt : exK N j t T = U at *
      have hjU : j < tn U := by omega
      have oj := (o1.2 j hjU).2
      have mj := x1.2.1 j hjU
      refine x_aload_n C rfl d_x_expand_16 ?_
      refine x_iload_n C rfl d_x_expand_17 ?_
      refine x_aload_n C rfl d_x_expand_18 ?_
      refine x_geta C K 16 rfl (by decide) d_x_expand_19 ?_
      refine x_iconst C (nI 5) rfl d_x_expand_22 ?_
      refine x_iload_n C rfl d_x_expand_23 ?_
      refine x_imulN C d_x_expand_24 ?_
      refine x_callVi C K s_x_91 (c_x_canFireN (e_l E) (k2 := 16) (n2 := 5000) (fr := 5 * j) (mk := tm U j) hN hR rfl rfl (by omega) (by omega) mj (fun p _ => by have := oj.le (by omega) p; omega)) rfl rfl rfl rfl rfl rfl d_x_expand_25 (fun r σ' hr => ?_)
      obtain ⟨rfl, rfl⟩ := hr
      refine x_ifB_eq C d_x_expand_28 (fun zf => ?_) (fun zf => ?_)
      · refine x_iincN (b := 1) C rfl rfl d_x_expand_127 ?_
        dsimp only [xst]
        refine x_goto C d_x_expand_130 ?_
        have eU : eT N j t U = U := by rw [eT, if_neg]; simp [canE, zf]
        rw [eU] at ih
        exact ih (b, τ) z ⟨i1, f1, fun _ => ⟨x1, x2.trans (lvE_n (by rw [← m1]; exact zf))⟩⟩
      · have ce : canE N U j t = true := by simp [canE, zf, hle]
        have eU : eT N j t U = tAdd U (newM N U j t) j := by rw [eT, if_pos ce]
        have hlt := leM_iff.mp zf
        rw [eU] at ih
        refine x_aload_n C rfl d_x_expand_31 ?_
        refine x_dup C rfl d_x_expand_32 ?_
        refine x_getv C K 23 rfl rfl x2 d_x_expand_33 ?_
        refine x_iconst C (nI 1) rfl d_x_expand_36 ?_
        refine x_iload_n C rfl d_x_expand_37 ?_
        refine x_ishl C d_x_expand_38 ?_
        refine x_ior C d_x_expand_39 ?_
        rw [lvE_s (by omega) (by rw [← m1]; exact zf)]
        refine x_puti C K 23 rfl rfl rfl d_x_expand_40 ?_
        refine x_iconst C (nI 0) rfl d_x_expand_43 ?_
        refine x_istore C rfl rfl d_x_expand_44 ?_
        dsimp only [xst]
        have f2 : frm [13, 16, 17, 18, 23] σ (va_up τ 23 (fun _ => lvI (lvE N T j (t + 1) B))) := f1.up (by decide) _
        have x1' : tX U (va_up τ 23 (fun _ => lvI (lvE N T j (t + 1) B))) := x1
        have l2 : (va_up τ 23 (fun _ => lvI (lvE N T j (t + 1) B))) 23 0 = lvI (lvE N T j (t + 1) B) := rfl
        have hR2 : RX N (va_up τ 23 (fun _ => lvI (lvE N T j (t + 1) B))) := hR
        generalize va_up τ 23 (fun _ => lvI (lvE N T j (t + 1) B)) = υ at f2 x1' l2 hR2 ⊢
        have mj2 := x1'.2.1 j hjU
        have key := x_forS (fun i f => Wx E 46 [.ref (q 0), .int (nI j), .int (bI b), .int (nI t), .int (nI i)] [] (va_up υ 13 f)) (fun i f => ∀ p, p < i → f p = nI (fireO N t (tm U j) p)) 5 (fun i f hi hI3 ih3 => ?_) 0 (υ 13) (Nat.zero_le _) (fun p hp => absurd hp (by omega))
        · rw [xueq] at key
          exact key
        · refine x_iload C rfl d_x_expand_46 ?_
          refine x_iconst C (nI 5) rfl d_x_expand_48 ?_
          refine x_icmpN_ge C (by omega) (by omega) d_x_expand_49 (fun z3 => ?_) (fun z3 => ?_)
          · have ofi := oj.fire hN (t := t)
            refine x_aload_n C rfl d_x_expand_116 ?_
            refine x_iload_n C rfl d_x_expand_117 ?_
            refine x_callVv C K s_x_155 (c_x_accelerate (e_l E) (T := U) (j := j) (w := fireO N t (tm U j)) hN hR2 o1 x1' hle hjU (fun p hp => hI3 p (by omega)) (ofi.le (by omega)) ofi.2) rfl rfl rfl rfl rfl rfl d_x_expand_118 (fun σ' hs => ?_)
            obtain ⟨f', rfl, hf'⟩ := hs
            rw [xuu]
            refine x_aload_n C rfl d_x_expand_121 ?_
            refine x_iload_n C rfl d_x_expand_122 ?_
            refine x_callVi C K s_x_158 (c_x_hang (e_l E) (n := tn U) (o := some j) (w := newM N U j t) hle x1'.1 (fun u hu => by cases hu; omega) hf') rfl rfl rfl rfl rfl rfl d_x_expand_123 (fun r σ' hr => ?_)
            rcases hr with ⟨n1, rfl, rfl⟩ | ⟨n1, rfl, s1, s2, s3, s4, s5, s6⟩
            · refine x_istore_n C 2 rfl rfl rfl d_x_expand_126 ?_
              dsimp only [xst]
              refine x_iincN (b := 1) C rfl rfl d_x_expand_127 ?_
              dsimp only [xst]
              refine x_goto C d_x_expand_130 ?_
              refine x_take 4 ?_
              refine ih (false, va_up υ 13 f') z ⟨?_, f2.up (by decide) f', fun hh => ?_⟩
              · rw [decide_eq_false]
                show ¬ tn U + 1 ≤ 1000
                omega
              · have : tn U + 1 ≤ 1000 := hh
                omega
            · refine x_istore_n C 2 rfl rfl rfl d_x_expand_126 ?_
              dsimp only [xst]
              refine x_iincN (b := 1) C rfl rfl d_x_expand_127 ?_
              dsimp only [xst]
              refine x_goto C d_x_expand_130 ?_
              refine x_take 4 ?_
              refine ih (true, σ') z ⟨?_, (f2.up (by decide) f').tr s1 (by decide), fun _ => ⟨⟨s2, fun i hi => ?_, fun i hi => ?_⟩, ?_⟩⟩
              · rw [decide_eq_true]
                show tn U + 1 ≤ 1000
                omega
              · have hi' : i < tn U + 1 := hi
                by_cases e : i = tn U
                · subst e
                  rw [show tm (tAdd U (newM N U j t) j) (tn U) = newM N U j t from if_pos rfl]
                  exact s3
                · rw [tm_add (by omega)]
                  intro p hp
                  show σ' 16 (5 * i + p) = _
                  rw [s4 _ (by omega)]
                  exact x1'.2.1 i (by omega) p hp
              · have hi' : i < tn U + 1 := hi
                by_cases e : i = tn U
                · subst e
                  rw [show ta (tAdd U (newM N U j t) j) (tn U) = some j from if_pos rfl]
                  exact s5
                · rw [ta_add (by omega)]
                  show σ' 17 i = _
                  rw [s6 i (by omega)]
                  exact x1'.2.2 i (by omega)
              · show σ' 23 0 = _
                rw [s1 23 (by decide)]
                exact l2
          · have bm := oj.le (by omega) i
            have bg := hN.2.2.2.2.2.1 t i
            have cont : Wx E 109 [.ref (q 0), .int (nI j), .int (bI b), .int (nI t), .int (nI i), .int (nI (tm U j i))] [.int (nI (fireO N t (tm U j) i)), .int (nI i), .ref (q 13)] (va_up υ 13 f) := by
              refine x_iast C K (k := 13) (N := 5) rfl rfl (by omega) d_x_expand_109 ?_
              refine x_iincN (b := 1) C rfl rfl d_x_expand_110 ?_
              dsimp only [xst]
              refine x_goto C d_x_expand_113 ?_
              rw [xuu, xus]
              refine x_take 5 ?_
              refine ih3 _ z3 (fun p hp => ?_)
              by_cases e : p = i
              · rw [e, upd_s]
              · rw [upd_n _ _ e]; exact hI3 p (by omega)
            refine x_aload_n C rfl d_x_expand_52 ?_
            refine x_geta C K 16 rfl (by decide) d_x_expand_53 ?_
            refine x_iconst C (nI 5) rfl d_x_expand_56 ?_
            refine x_iload_n C rfl d_x_expand_57 ?_
            refine x_imulN C d_x_expand_58 ?_
            refine x_iload C rfl d_x_expand_59 ?_
            refine x_iaddN C d_x_expand_61 ?_
            refine x_iald C K (k := 16) (N := 5000) rfl rfl (by omega) (mj2 i (by omega)) d_x_expand_62 ?_
            refine x_istore C rfl rfl d_x_expand_63 ?_
            dsimp only [xst]
            refine x_aload_n C rfl d_x_expand_65 ?_
            refine x_geta C K 13 rfl (by decide) d_x_expand_66 ?_
            refine x_iload C rfl d_x_expand_69 ?_
            refine x_iload C rfl d_x_expand_71 ?_
            refine x_ldc C (nI 1000000) tb_cx148 rfl d_x_expand_73 ?_
            refine x_icmpN_ne C (by omega) (by omega) d_x_expand_75 (fun z4 => ?_) (fun z4 => ?_)
            · rw [show fireO N t (tm U j) i = tm U j i + ngv N t i - ntk N t i from if_neg z4] at cont
              have hh := hlt i (by omega)
              refine x_iload C rfl d_x_expand_83 ?_
              refine x_aload_n C rfl d_x_expand_85 ?_
              refine x_geta C K 6 rfl (by decide) d_x_expand_86 ?_
              refine x_iconst C (nI 5) rfl d_x_expand_89 ?_
              refine x_iload_n C rfl d_x_expand_90 ?_
              refine x_imulN C d_x_expand_91 ?_
              refine x_iload C rfl d_x_expand_92 ?_
              refine x_iaddN C d_x_expand_94 ?_
              refine x_bald C K (k := 6) (N := 30) rfl rfl (by omega) (hR2.2.2.2.2.2 t i (by omega) (by omega)) d_x_expand_95 ?_
              refine x_iaddN C d_x_expand_96 ?_
              refine x_aload_n C rfl d_x_expand_97 ?_
              refine x_geta C K 5 rfl (by decide) d_x_expand_98 ?_
              refine x_iconst C (nI 5) rfl d_x_expand_101 ?_
              refine x_iload_n C rfl d_x_expand_102 ?_
              refine x_imulN C d_x_expand_103 ?_
              refine x_iload C rfl d_x_expand_104 ?_
              refine x_iaddN C d_x_expand_106 ?_
              refine x_bald C K (k := 5) (N := 30) rfl rfl (by omega) (hR2.2.2.2.2.1 t i (by omega) (by omega)) d_x_expand_107 ?_
              refine x_isubN C (by omega) d_x_expand_108 ?_
              exact cont
            · rw [show fireO N t (tm U j) i = OM from if_pos z4] at cont
              refine x_ldc C (nI 1000000) tb_cx148 rfl d_x_expand_78 ?_
              refine x_goto C d_x_expand_80 ?_
              exact cont
theorem c_x_isLess (l : Launch) {σ : XS} {i j : Nat} {a b : Mk} (hi : i < 1000) (hj : j < 1000) (ha : mkAt (σ 16) (5 * i) a) (hb : mkAt (σ 16) (5 * j) b) (ba : ∀ p, a p ≤ OM) (bb : ∀ p, b p ≤ OM) : XCi false l y_x_isLess b_x_isLess 4 .boolean 0 0 (fun q => [.ref (q 0), .int (nI i), .int (nI j)]) σ (fun r σ' => r = bI (lssM a b) ∧ σ = σ') := by
  refine XCi.of (by decide) rfl (fun _ => rfl) (fun _ => rfl) (fun E q cA hEl C K R => ?_)
  have hO : (OM : Nat) = 1000000 := rfl
  refine x_iconst C (nI 0) rfl d_x_isLess_0 ?_
  refine x_istore_n C 3 rfl rfl rfl d_x_isLess_1 ?_
  dsimp only [xst]
  refine x_forS (fun p (_ : Unit) => Wx E 2 [.ref (q 0), .int (nI i), .int (nI j), .int (nI p)] [] σ) (fun p _ => lssM a b = lsN a b (5 - p) p) 5 (fun p _ hp hI ih => ?_) 0 () (Nat.zero_le _) rfl
  refine x_iload_n C rfl d_x_isLess_2 ?_
  refine x_iconst C (nI 5) rfl d_x_isLess_3 ?_
  refine x_icmpN_ge C (by omega) (by omega) d_x_isLess_4 (fun z => ?_) (fun z => ?_)
  · have e : p = 5 := by omega
    subst e
    refine x_iload_n C rfl d_x_isLess_36 ?_
    refine x_iconst C (nI 5) rfl d_x_isLess_37 ?_
    refine x_icmpN_ge C (by omega) (by omega) d_x_isLess_38 (fun _ => ?_) (fun z2 => absurd z2 (by omega))
    refine x_iconst C (nI 0) rfl d_x_isLess_68 ?_
    exact R (bI_nar false) ⟨by rw [hI]; rfl, rfl⟩ d_x_isLess_69
  · have b1 := ba p
    have b2 := bb p
    have e5 : 5 - p = (5 - (p + 1)) + 1 := by omega
    rw [e5, lsN] at hI
    refine x_aload_n C rfl d_x_isLess_7 ?_
    refine x_geta C K 16 rfl (by decide) d_x_isLess_8 ?_
    refine x_iconst C (nI 5) rfl d_x_isLess_11 ?_
    refine x_iload_n C rfl d_x_isLess_12 ?_
    refine x_imulN C d_x_isLess_13 ?_
    refine x_iload_n C rfl d_x_isLess_14 ?_
    refine x_iaddN C d_x_isLess_15 ?_
    refine x_iald C K (k := 16) (N := 5000) rfl rfl (by omega) (ha p z) d_x_isLess_16 ?_
    refine x_aload_n C rfl d_x_isLess_17 ?_
    refine x_geta C K 16 rfl (by decide) d_x_isLess_18 ?_
    refine x_iconst C (nI 5) rfl d_x_isLess_21 ?_
    refine x_iload_n C rfl d_x_isLess_22 ?_
    refine x_imulN C d_x_isLess_23 ?_
    refine x_iload_n C rfl d_x_isLess_24 ?_
    refine x_iaddN C d_x_isLess_25 ?_
    refine x_iald C K (k := 16) (N := 5000) rfl rfl (by omega) (hb p z) d_x_isLess_26 ?_
    refine x_icmpN_ne C (by omega) (by omega) d_x_isLess_27 (fun z2 => ?_) (fun z2 => ?_)
    · rw [if_neg z2] at hI
      refine x_iload_n C rfl d_x_isLess_36 ?_
      refine x_iconst C (nI 5) rfl d_x_isLess_37 ?_
      refine x_icmpN_ge C (by omega) (by omega) d_x_isLess_38 (fun z3 => absurd z3 (by omega)) (fun _ => ?_)
      refine x_aload_n C rfl d_x_isLess_41 ?_
      refine x_geta C K 16 rfl (by decide) d_x_isLess_42 ?_
      refine x_iconst C (nI 5) rfl d_x_isLess_45 ?_
      refine x_iload_n C rfl d_x_isLess_46 ?_
      refine x_imulN C d_x_isLess_47 ?_
      refine x_iload_n C rfl d_x_isLess_48 ?_
      refine x_iaddN C d_x_isLess_49 ?_
      refine x_iald C K (k := 16) (N := 5000) rfl rfl (by omega) (ha p z) d_x_isLess_50 ?_
      refine x_aload_n C rfl d_x_isLess_51 ?_
      refine x_geta C K 16 rfl (by decide) d_x_isLess_52 ?_
      refine x_iconst C (nI 5) rfl d_x_isLess_55 ?_
      refine x_iload_n C rfl d_x_isLess_56 ?_
      refine x_imulN C d_x_isLess_57 ?_
      refine x_iload_n C rfl d_x_isLess_58 ?_
      refine x_iaddN C d_x_isLess_59 ?_
      refine x_iald C K (k := 16) (N := 5000) rfl rfl (by omega) (hb p z) d_x_isLess_60 ?_
      refine x_cmpB_ge C (by omega) (by omega) d_x_isLess_61 d_x_isLess_64 d_x_isLess_65 d_x_isLess_68 ?_
      exact R (bI_nar _) ⟨by rw [hI], rfl⟩ d_x_isLess_69
    · rw [if_pos z2] at hI
      refine x_iincN (b := 1) C rfl rfl d_x_isLess_30 ?_
      dsimp only [xst]
      refine x_goto C d_x_isLess_33 ?_
      exact ih () z hI
theorem c_x_findTops (l : Launch) {σ : XS} {N : XNet} {T : XT} (hN : NOK N) (h : RX N σ) (hT : TOK (nP N) T) (hX : tX T σ) (hn : tn T ≤ 1000) (h22 : σ 22 0 = nI 0) : XCv false l y_x_findTops b_x_findTops 4 1 30 (fun q => [.ref (q 0)]) σ (fun σ' => frm [13, 21, 22] σ σ' ∧ σ' 22 0 = nI (tf T (tn T)).1 ∧ ∀ k, k < (tf T (tn T)).1 → σ' 21 k = nI ((tf T (tn T)).2 k)) := by
  refine XCv.of (by decide) rfl (fun _ => rfl) (fun _ => rfl) (fun E q cA hEl C K R => ?_)
  subst hEl
  refine x_iconst C (nI 0) rfl d_x_findTops_0 ?_
  refine x_istore_n C 1 rfl rfl rfl d_x_findTops_1 ?_
  dsimp only [xst]
  refine x_forS (fun j τ => Wx E 2 [.ref (q 0), .int (nI j)] [] τ) (fun j τ => frm [13, 21, 22] σ τ ∧ τ 22 0 = nI (tf T j).1 ∧ ∀ k, k < (tf T j).1 → τ 21 k = nI ((tf T j).2 k)) (tn T) (fun j τ hj hI ih => ?_) 0 σ (Nat.zero_le _) ⟨frm.rf _ _, h22, fun k hk => absurd hk (Nat.not_lt_zero k)⟩
  obtain ⟨f1, c1, t1⟩ := hI
  have hR : RX N τ := h.fr f1 (by decide)
  have x1 : tX T τ := hX.fr f1 (by decide) (by decide) (by decide)
  have cl := tf_le T j
  have tl := tf_lt T j
  refine x_iload_n C rfl d_x_findTops_2 ?_
  refine x_aload_n C rfl d_x_findTops_3 ?_
  refine x_getv C K 18 rfl rfl x1.1 d_x_findTops_4 ?_
  refine x_icmpN_ge C (by omega) (by omega) d_x_findTops_7 (fun z => ?_) (fun z => ?_)
  · have e : j = tn T := by omega
    subst e
    exact R ⟨f1, c1, t1⟩ d_x_findTops_150
  · have oj := (hT.2 j z).2
    have eT1 : tf T (j + 1) = if topB T j then ((tf T j).1 + 1, ins T j (tf T j).1 (tf T j).2) else tf T j := rfl
    -- behind the inner loop
    have after : ∀ (f : Nat → Int32) (b : Bool) (k : Nat), b = topB T j → Wx E 80 [.ref (q 0), .int (nI j), .int (bI b), .int (nI k)] [] (va_up τ 13 f) := by
      intro f b k hb
      refine x_iload_n C rfl d_x_findTops_80 ?_
      refine x_ifB_eq C d_x_findTops_81 (fun z2 => ?_) (fun z2 => ?_)
      · refine x_iincN (b := 1) C rfl rfl d_x_findTops_144 ?_
        dsimp only [xst]
        refine x_goto C d_x_findTops_147 ?_
        refine x_take 2 ?_
        rw [eT1, if_neg (by rw [← hb, z2]; decide)] at ih
        exact ih (va_up τ 13 f) z ⟨f1.up (by decide) f, c1, t1⟩
      · rw [eT1, if_pos (by rw [← hb, z2])] at ih
        refine x_aload_n C rfl d_x_findTops_84 ?_
        refine x_dup C rfl d_x_findTops_85 ?_
        refine x_getv C K 22 rfl rfl c1 d_x_findTops_86 ?_
        refine x_dup_x1 C rfl rfl d_x_findTops_89 ?_
        refine x_iconst C (nI 1) rfl d_x_findTops_90 ?_
        refine x_iaddN C d_x_findTops_91 ?_
        refine x_puti C K 22 rfl rfl rfl d_x_findTops_92 ?_
        refine x_istore_n C 3 rfl rfl rfl d_x_findTops_95 ?_
        dsimp only [xst]
        generalize hc : (tf T j).1 = c at *
        generalize htp : (tf T j).2 = tp0 at *
        have f2 : frm [13, 21, 22] σ (va_up (va_up τ 13 f) 22 (fun _ => nI (c + 1))) := (f1.up (by decide) f).up (by decide) _
        have c2 : (va_up (va_up τ 13 f) 22 (fun _ => nI (c + 1))) 22 0 = nI (c + 1) := rfl
        have x2 : tX T (va_up (va_up τ 13 f) 22 (fun _ => nI (c + 1))) := x1
        have t2 : ∀ k, k < c → (va_up (va_up τ 13 f) 22 (fun _ => nI (c + 1))) 21 k = nI (tp0 k) := t1
        generalize va_up (va_up τ 13 f) 22 (fun _ => nI (c + 1)) = υ at f2 c2 x2 t2 ⊢
        have key := x_while (fun (s : Nat × (Nat → Nat) × (Nat → Int32)) => Wx E 96 [.ref (q 0), .int (nI j), .int (bI b), .int (nI s.1)] [] (va_up υ 21 s.2.2)) (fun s => s.1 ≤ c ∧ ins T j s.1 s.2.1 = ins T j c tp0 ∧ (∀ i, i < s.1 → s.2.1 i < j) ∧ ∀ i, i ≤ c → i ≠ s.1 → s.2.2 i = nI (s.2.1 i)) (fun s => s.1) (fun s hI2 ih2 => ?_) (c, tp0, υ 21) ⟨Nat.le_refl _, rfl, tl, fun i h1 h2 => t2 i (by omega)⟩
        · rw [xueq] at key
          exact key
        · obtain ⟨k, tp, g⟩ := s
          obtain ⟨k1, k2, k3, k4⟩ := hI2
          dsimp only at k1 k2 k3 k4 ih2 ⊢
          -- put it here
          have put : ins T j k tp = upN tp k j → Wx E 136 [.ref (q 0), .int (nI j), .int (bI b), .int (nI k)] [] (va_up υ 21 g) := by
            intro hins
            refine x_aload_n C rfl d_x_findTops_136 ?_
            refine x_geta C K 21 rfl (by decide) d_x_findTops_137 ?_
            refine x_iload_n C rfl d_x_findTops_140 ?_
            refine x_iload_n C rfl d_x_findTops_141 ?_
            refine x_i2s C _ (nI_i16 (by omega)) d_x_findTops_142 ?_
            refine x_sast C K (k := 21) (N := 1000) rfl rfl (by omega) (nI_i16 (by omega)) d_x_findTops_143 ?_
            refine x_iincN (b := 1) C rfl rfl d_x_findTops_144 ?_
            dsimp only [xst]
            refine x_goto C d_x_findTops_147 ?_
            rw [xuu, xus]
            refine x_take 2 ?_
            refine ih (va_up υ 21 (upd g k (nI j))) z ⟨f2.up (by decide) _, c2, fun i hi => ?_⟩
            have hi' : i < c + 1 := hi
            show upd g k (nI j) i = nI (ins T j c tp0 i)
            rw [← k2, hins]
            by_cases e : i = k
            · rw [e, upd_s]; simp [upN]
            · rw [upd_n _ _ e, k4 i (by omega) e]; simp [upN, e]
          refine x_iload_n C rfl d_x_findTops_96 ?_
          refine x_ifN_le C (by omega) d_x_findTops_97 (fun z3 => put (by rw [z3]; rfl)) (fun z3 => ?_)
          obtain ⟨k', rfl⟩ : ∃ k', k = k' + 1 := ⟨k - 1, by omega⟩
          have hk' := k3 k' (by omega)
          have hv : va_up υ 21 g 21 (k' + 1 - 1) = nI (tp k') := by rw [xus]; exact k4 k' (by omega) (by omega)
          have o2 := (hT.2 (tp k') (by omega)).2
          refine x_aload_n C rfl d_x_findTops_100 ?_
          refine x_iload_n C rfl d_x_findTops_101 ?_
          refine x_aload_n C rfl d_x_findTops_102 ?_
          refine x_geta C K 21 rfl (by decide) d_x_findTops_103 ?_
          refine x_iload_n C rfl d_x_findTops_106 ?_
          refine x_iconst C (nI 1) rfl d_x_findTops_107 ?_
          refine x_isubN C (by omega) d_x_findTops_108 ?_
          refine x_sald C K (k := 21) (N := 1000) rfl rfl (by omega) hv d_x_findTops_109 ?_
          refine x_callVi C K s_x_176 (c_x_isLess (e_l E) (i := j) (j := tp k') (by omega) (by omega) (x2.2.1 j z) (x2.2.1 (tp k') (by omega)) (oj.le (by omega)) (o2.le (by omega))) rfl rfl rfl rfl rfl rfl d_x_findTops_110 (fun r σ' hr => ?_)
          obtain ⟨rfl, rfl⟩ := hr
          refine x_ifB_eq C d_x_findTops_113 (fun z4 => put (by rw [ins, z4]; rfl)) (fun z4 => ?_)
          refine x_aload_n C rfl d_x_findTops_116 ?_
          refine x_geta C K 21 rfl (by decide) d_x_findTops_117 ?_
          refine x_iload_n C rfl d_x_findTops_120 ?_
          refine x_aload_n C rfl d_x_findTops_121 ?_
          refine x_geta C K 21 rfl (by decide) d_x_findTops_122 ?_
          refine x_iload_n C rfl d_x_findTops_125 ?_
          refine x_iconst C (nI 1) rfl d_x_findTops_126 ?_
          refine x_isubN C (by omega) d_x_findTops_127 ?_
          refine x_sald C K (k := 21) (N := 1000) rfl rfl (by omega) hv d_x_findTops_128 ?_
          refine x_sast C K (k := 21) (N := 1000) rfl rfl (by omega) (nI_i16 (by omega)) d_x_findTops_129 ?_
          refine x_idecN C rfl (by omega) rfl d_x_findTops_130 ?_
          dsimp only [xst]
          refine x_goto C d_x_findTops_133 ?_
          rw [xuu, xus]
          refine ih2 (k', upN tp (k' + 1) (tp k'), upd g (k' + 1) (nI (tp k'))) (Nat.lt_succ_self _) ⟨by omega, ?_, fun i hi => ?_, fun i h1 h2 => ?_⟩
          · rw [← k2, ins, z4]; rfl
          · show upN tp (k' + 1) (tp k') i < j
            simp only [upN]
            rw [if_neg (by omega)]
            exact k3 i (by omega)
          · show upd g (k' + 1) (nI (tp k')) i = nI (upN tp (k' + 1) (tp k') i)
            by_cases e : i = k' + 1
            · rw [e, upd_s]; simp [upN]
            · rw [upd_n _ _ e, k4 i h1 e]; simp [upN, e]
    refine x_iconst C (nI 1) rfl d_x_findTops_10 ?_
    refine x_istore_n C 2 rfl rfl rfl d_x_findTops_11 ?_
    dsimp only [xst]
    refine x_iconst C (nI 0) rfl d_x_findTops_12 ?_
    refine x_istore_n C 3 rfl rfl rfl d_x_findTops_13 ?_
    dsimp only [xst]
    have key := x_forS (fun k (s : Bool × (Nat → Int32)) => Wx E 14 [.ref (q 0), .int (nI j), .int (bI s.1), .int (nI k)] [] (va_up τ 13 s.2)) (fun k s => s.1 = xall k (fun k => !leM (tm T j) (tm T k) || (leM (tm T k) (tm T j) && decide (j ≤ k)))) (tn T) (fun k s hk hI2 ih2 => ?_) 0 (true, τ 13) (Nat.zero_le _) rfl
    · rw [xueq] at key
      exact key
    · obtain ⟨b, f⟩ := s
      dsimp only at hI2 ⊢
      refine x_iload_n C rfl d_x_findTops_14 ?_
      refine x_aload_n C rfl d_x_findTops_15 ?_
      refine x_getv C K 18 rfl rfl x1.1 d_x_findTops_16 ?_
      refine x_icmpN_ge C (by omega) (by omega) d_x_findTops_19 (fun z2 => ?_) (fun z2 => ?_)
      · have e : k = tn T := by omega
        subst e
        exact after f b _ hI2
      · refine x_iload_n C rfl d_x_findTops_22 ?_
        refine x_ifB_eq C d_x_findTops_23 (fun z3 => ?_) (fun z3 => ?_)
        · refine after f b k ?_
          rw [z3]
          rw [z3] at hI2
          cases ht : topB T j with
          | false => rfl
          | true =>
            have h1 := xall_iff.mp ht
            have h2 : xall k (fun k => !leM (tm T j) (tm T k) || (leM (tm T k) (tm T j) && decide (j ≤ k))) = true := xall_iff.mpr (fun i hi => h1 i (by omega))
            rw [h2] at hI2
            cases hI2
        · have ok := (hT.2 k z2).2
          have mk := x1.2.1 k z2
          rw [z3] at hI2
          refine x_aload_n C rfl d_x_findTops_26 ?_
          refine x_geta C K 16 rfl (by decide) d_x_findTops_27 ?_
          refine x_iconst C (nI 5) rfl d_x_findTops_30 ?_
          refine x_iload_n C rfl d_x_findTops_31 ?_
          refine x_imulN C d_x_findTops_32 ?_
          refine x_aload_n C rfl d_x_findTops_33 ?_
          refine x_geta C K 13 rfl (by decide) d_x_findTops_34 ?_
          refine x_iconst C (nI 0) rfl d_x_findTops_37 ?_
          refine x_iconst C (nI 5) rfl d_x_findTops_38 ?_
          refine x_copy C K 1 (Or.inl rfl) rfl rfl (N0 := 5000) (N1 := 5) rfl rfl (by omega) (by omega) (fun _ _ => rfl) (by omega) (by omega) (by decide) d_x_findTops_39 ?_
          rw [xuu, xus]
          have hw : mk0 (va_cpy (va_up τ 13 f 16) f (5 * k) 0 5) (tm T k) := fun p hp => by
            rw [pk_cpy_in (by omega) (by omega)]
            rw [show 5 * k + (p - 0) = 5 * k + p by omega]
            exact mk p hp
          generalize va_cpy (va_up τ 13 f 16) f (5 * k) 0 5 = f' at hw ⊢
          have cont : ∀ v : Bool, v = (!leM (tm T j) (tm T k) || (leM (tm T k) (tm T j) && decide (j ≤ k))) → Wx E 73 [.ref (q 0), .int (nI j), .int (bI b), .int (nI k)] [.int (bI v)] (va_up τ 13 f') := by
            intro v hv
            refine x_istore_n C 2 rfl rfl rfl d_x_findTops_73 ?_
            dsimp only [xst]
            refine x_iincN (b := 1) C rfl rfl d_x_findTops_74 ?_
            dsimp only [xst]
            refine x_goto C d_x_findTops_77 ?_
            refine ih2 (v, f') z2 ?_
            show v = xall (k + 1) _
            rw [xall, ← hI2, Bool.true_and]
            exact hv
          refine x_aload_n C rfl d_x_findTops_42 ?_
          refine x_iload_n C rfl d_x_findTops_43 ?_
          refine x_aload_n C rfl d_x_findTops_44 ?_
          refine x_geta C K 13 rfl (by decide) d_x_findTops_45 ?_
          refine x_callVi C K s_x_141 (c_x_isBelow (e_l E) (j := j) (a := tm T j) (w := tm T k) hN hR (by omega) (x1.2.1 j z) hw (oj.le (by omega)) (ok.le (by omega)) oj.2 ok.2) rfl rfl rfl rfl rfl rfl d_x_findTops_48 (fun r σ' hr => ?_)
          obtain ⟨rfl, rfl⟩ := hr
          refine x_ifB_ne C d_x_findTops_51 (fun z4 => ?_) (fun z4 => ?_)
          · refine x_iconst C (nI 0) rfl d_x_findTops_72 ?_
            refine cont false ?_
            simp only [Bool.and_eq_true, Bool.not_eq_true', eqM, Bool.and_eq_false_iff] at z4
            have h2 : leM (tm T k) (tm T j) = false := by
              rcases z4.2 with e | e
              · rw [z4.1] at e; cases e
              · exact e
            rw [z4.1, h2]; rfl
          · refine x_iload_n C rfl d_x_findTops_54 ?_
            refine x_iload_n C rfl d_x_findTops_55 ?_
            refine x_icmpN_ge C (by omega) (by omega) d_x_findTops_56 (fun z5 => ?_) (fun z5 => ?_)
            · refine x_iconst C (nI 1) rfl d_x_findTops_68 ?_
              refine x_goto C d_x_findTops_69 ?_
              refine cont true ?_
              cases h1 : leM (tm T j) (tm T k) with
              | false => rfl
              | true =>
                simp only [h1, eqM, Bool.true_and, Bool.not_eq_false'] at z4
                rw [z4, decide_eq_true z5]; rfl
            · refine x_aload_n C rfl d_x_findTops_59 ?_
              refine x_iload_n C rfl d_x_findTops_60 ?_
              refine x_iload_n C rfl d_x_findTops_61 ?_
              refine x_callVi C K s_x_138 (c_x_isAt (e_l E) (i := k) (j := j) hN hR (by omega) (by omega) (x1.2.1 k z2) (x1.2.1 j z) (ok.le (by omega)) (oj.le (by omega)) ok.2 oj.2) rfl rfl rfl rfl rfl rfl d_x_findTops_62 (fun r σ' hr => ?_)
              obtain ⟨rfl, rfl⟩ := hr
              refine x_ifB_ne C d_x_findTops_65 (fun z6 => ?_) (fun z6 => ?_)
              · refine x_iconst C (nI 0) rfl d_x_findTops_72 ?_
                refine cont false ?_
                simp only [eqM, Bool.and_eq_true] at z6
                rw [z6.1, z6.2, decide_eq_false (by omega)]; rfl
              · refine x_iconst C (nI 1) rfl d_x_findTops_68 ?_
                refine x_goto C d_x_findTops_69 ?_
                refine cont true ?_
                cases h1 : leM (tm T j) (tm T k) with
                | false => rfl
                | true =>
                  simp only [h1, eqM, Bool.true_and, Bool.not_eq_false'] at z4
                  simp only [eqM, h1, z4] at z6
                  cases z6
/-- what grow leaves -/
def RXt (N : XNet) (T : XT) (σ : XS) : Prop := tX T σ ∧ σ 19 0 = nI (nP N) ∧ σ 20 0 = nI (nT N) ∧ σ 22 0 = nI (tf T (tn T)).1 ∧ (∀ k, k < (tf T (tn T)).1 → σ 21 k = nI ((tf T (tn T)).2 k)) ∧ σ 23 0 = lvI (lvB N T)
theorem lvX.again {N : XNet} {T : XT} {k : Nat} {B : Nat → Bool} (h : lvX N T k B) (ha : agn T k = true) : lvX N T (k + 1) B := by
  refine ⟨h.1, fun j hj hf t ht hl => ?_⟩
  by_cases e : j = k
  · rw [e, ha] at hf; cases hf
  · exact h.2 j (by omega) hf t ht hl
theorem lvX.expand {N : XNet} {T T' : XT} {k : Nat} {B : Nat → Bool} (h : lvX N T k B) (hk : k < tn T) (hn : tn T ≤ tn T') (ho : ∀ u, u < tn T → tm T' u = tm T u ∧ agn T' u = agn T u) : lvX N T' (k + 1) (lvE N T k (nT N) B) := by
  refine ⟨fun t ht hb => ?_, fun j hj hf t ht hl => ?_⟩
  · have mono : ∀ j, j < tn T → leM (ntk N t) (tm T j) = true → t < nT N → lvB N T' t = true := by
      intro j hj hl htt
      simp only [lvB, Bool.and_eq_true, decide_eq_true_eq, xany_iff]
      exact ⟨htt, j, by omega, by rw [(ho j hj).1]; exact hl⟩
    simp only [lvE, Bool.or_eq_true, Bool.and_eq_true, decide_eq_true_eq] at hb
    rcases hb with hb | hb
    · have h1 := h.1 t ht hb
      simp only [lvB, Bool.and_eq_true, decide_eq_true_eq, xany_iff] at h1
      obtain ⟨h2, j, h3, h4⟩ := h1
      exact mono j h3 h4 h2
    · exact mono k hk hb.2 hb.1
  · simp only [lvE, Bool.or_eq_true, Bool.and_eq_true, decide_eq_true_eq]
    by_cases e : j = k
    · refine Or.inr ⟨ht, ?_⟩
      rw [e, (ho k hk).1] at hl
      exact hl
    · obtain ⟨o1, o2⟩ := ho j (by omega)
      rw [o1] at hl
      rw [o2] at hf
      exact Or.inl (h.2 j (by omega) hf t ht hl)
theorem c_x_grow (l : Launch) {σ : XS} {N : XNet} (hN : NOK N) (h : RX N σ) : XCi false l y_x_grow b_x_grow 3 .int 3 90 (fun q => [.ref (q 0)]) σ (fun r σ' => ∃ k, isEndT N k ∧ frm [13, 16, 17, 18, 19, 20, 21, 22, 23] σ σ' ∧ ((tn (gr N k) ≤ 1000 ∧ r = nI (tn (gr N k)) ∧ TOK (nP N) (gr N k) ∧ RXt N (gr N k) σ') ∨ (1000 < tn (gr N k) ∧ r = -1 ∧ σ' 20 0 = -1))) := by
  refine XCi.of (by decide) rfl (fun _ => rfl) (fun _ => rfl) (fun E q cA hEl C K R => ?_)
  subst hEl
  refine x_aload_n C rfl d_x_grow_0 ?_
  refine x_iconst C (nI 0) rfl d_x_grow_1 ?_
  refine x_puti C K 18 rfl rfl rfl d_x_grow_2 ?_
  refine x_aload_n C rfl d_x_grow_5 ?_
  refine x_iconst C (nI 0) rfl d_x_grow_6 ?_
  refine x_puti C K 23 rfl rfl rfl d_x_grow_7 ?_
  refine x_aload_n C rfl d_x_grow_10 ?_
  refine x_iconst C (nI 0) rfl d_x_grow_11 ?_
  refine x_puti C K 22 rfl rfl rfl d_x_grow_12 ?_
  refine x_aload_n C rfl d_x_grow_15 ?_
  refine x_aload_n C rfl d_x_grow_16 ?_
  refine x_getv C K 0 rfl rfl h.1 d_x_grow_17 ?_
  refine x_puti C K 19 rfl rfl rfl d_x_grow_20 ?_
  refine x_aload_n C rfl d_x_grow_23 ?_
  refine x_aload_n C rfl d_x_grow_24 ?_
  refine x_getv C K 1 rfl rfl h.2.1 d_x_grow_25 ?_
  refine x_puti C K 20 rfl rfl rfl d_x_grow_28 ?_
  refine x_aload_n C rfl d_x_grow_31 ?_
  refine x_geta C K 2 rfl (by decide) d_x_grow_32 ?_
  refine x_iconst C (nI 0) rfl d_x_grow_35 ?_
  refine x_aload_n C rfl d_x_grow_36 ?_
  refine x_geta C K 13 rfl (by decide) d_x_grow_37 ?_
  refine x_iconst C (nI 0) rfl d_x_grow_40 ?_
  refine x_iconst C (nI 5) rfl d_x_grow_41 ?_
  refine x_copy C K 1 (Or.inl rfl) rfl rfl (N0 := 5) (N1 := 5) rfl rfl (by omega) (by omega) (fun _ _ => rfl) (by omega) (by omega) (by decide) d_x_grow_42 ?_
  have mk : ∀ σ1 : XS, σ1 2 = σ 2 → mk0 (va_cpy (σ1 2) (σ1 13) 0 0 5) (nfi N) := fun σ1 e p hp => by
    rw [pk_cpy_in (by omega) (by omega), e]
    simpa using h.2.2.1 p hp
  generalize hτ : va_up (va_up (va_up (va_up (va_up σ 18 (fun _ => nI 0)) 23 (fun _ => nI 0)) 22 (fun _ => nI 0)) 19 (fun _ => nI (nP N))) 20 (fun _ => nI (nT N)) = σ1
  have f1 : frm [13, 16, 17, 18, 19, 20, 21, 22, 23] σ σ1 := by rw [← hτ]; exact (((((frm.rf _ σ).up (by decide) _).up (by decide) _).up (by decide) _).up (by decide) _).up (by decide) _
  have m1 := mk σ1 (by rw [← hτ]; rfl)
  have a18 : σ1 18 0 = nI 0 := by rw [← hτ]; rfl
  have a19 : σ1 19 0 = nI (nP N) := by rw [← hτ]; rfl
  have a20 : σ1 20 0 = nI (nT N) := by rw [← hτ]; rfl
  have a22 : σ1 22 0 = nI 0 := by rw [← hτ]; rfl
  have a23 : σ1 23 0 = nI 0 := by rw [← hτ]; rfl
  generalize va_cpy (σ1 2) (σ1 13) 0 0 5 = g at m1 ⊢
  refine x_aload_n C rfl d_x_grow_45 ?_
  refine x_iconst C (-1) rfl d_x_grow_46 ?_
  refine x_callVi C K s_x_158 (c_x_hang (e_l E) (n := 0) (o := none) (w := nfi N) (by omega) a18 (fun u hu => by cases hu) m1) rfl rfl rfl rfl rfl rfl d_x_grow_47 (fun r σ2 hr => ?_)
  rcases hr with ⟨n1, -, -⟩ | ⟨-, rfl, s1, s2, s3, s4, s5, s6⟩
  · exact absurd n1 (by omega)
  have e16 : ∀ k, k ∉ [13, 16, 17, 18] → σ2 k = σ1 k := fun k hk => by
    rw [s1 k (fun hh => hk (List.mem_cons_of_mem _ hh)), xun σ1 (fun e => hk (by rw [e]; decide))]
  refine x_istore_n C 1 rfl rfl rfl d_x_grow_50 ?_
  dsimp only [xst]
  refine x_iconst C (nI 0) rfl d_x_grow_51 ?_
  refine x_istore_n C 2 rfl rfl rfl d_x_grow_52 ?_
  dsimp only [xst]
  refine x_forS (fun k (s : Bool × XS) => Wx E 53 [.ref (q 0), .int (bI s.1), .int (nI k)] [] s.2) (fun k s => s.1 = decide (tn (gr N k) ≤ 1000) ∧ frm [13, 16, 17, 18, 19, 20, 21, 22, 23] σ s.2 ∧ s.2 19 0 = nI (nP N) ∧ s.2 20 0 = nI (nT N) ∧ s.2 22 0 = nI 0 ∧ (∀ j, j < k → j < tn (gr N j) ∧ tn (gr N j) ≤ 1000) ∧ (tn (gr N k) ≤ 1000 → tX (gr N k) s.2 ∧ ∃ B, s.2 23 0 = lvI B ∧ lvX N (gr N k) k B)) 1001 (fun k s hk hI ih => ?_) 0 (true, σ2) (Nat.zero_le _) ⟨rfl, (f1.up (by decide) g).tr s1 (by decide), ?_, ?_, ?_, fun j hj => absurd hj (by omega), fun _ => ⟨⟨s2, fun j hj => ?_, fun j hj => ?_⟩, (fun _ => false), ?_, fun t _ hb => (by cases hb), fun j hj => absurd hj (by omega)⟩⟩
  · obtain ⟨b, τ⟩ := s
    obtain ⟨i1, f2, b19, b20, b22, i2, i3⟩ := hI
    dsimp only at i1 f2 b19 b20 b22 i2 i3 ⊢
    have hR : RX N τ := h.fr f2 (by decide)
    by_cases hle : tn (gr N k) ≤ 1000
    · obtain ⟨x1, B, y1, y2⟩ := i3 hle
      have hT := grT_ok hN k (fun i hi => (i2 i hi).1)
      rw [decide_eq_true hle] at i1
      subst i1
      refine x_iload_n C rfl d_x_grow_53 ?_
      refine x_aload_n C rfl d_x_grow_54 ?_
      refine x_getv C K 18 rfl rfl x1.1 d_x_grow_55 ?_
      refine x_icmpN_ge C (by omega) (by omega) d_x_grow_58 (fun z => ?_) (fun z => ?_)
      · refine x_iload_n C rfl d_x_grow_93 ?_
        refine x_ifB_ne C d_x_grow_94 (fun _ => ?_) (fun hh => absurd hh (by decide))
        refine x_aload_n C rfl d_x_grow_104 ?_
        refine x_callVv C K s_x_173 (c_x_findTops (e_l E) hN hR hT x1 hle b22) rfl rfl rfl rfl rfl rfl d_x_grow_105 (fun σ3 hs => ?_)
        obtain ⟨u1, u2, u3⟩ := hs
        have x3 : tX (gr N k) σ3 := x1.fr u1 (by decide) (by decide) (by decide)
        refine x_aload_n C rfl d_x_grow_108 ?_
        refine x_getv C K 18 rfl rfl x3.1 d_x_grow_109 ?_
        refine R rfl ⟨k, ⟨Or.inl z, i2⟩, f2.tr u1 (by decide), Or.inl ⟨hle, rfl, hT, x3, ?_, ?_, u2, u3, ?_⟩⟩ d_x_grow_112
        · rw [u1 19 (by decide)]; exact b19
        · rw [u1 20 (by decide)]; exact b20
        · rw [u1 23 (by decide), y1]; exact lvX_end hN hT z y2
      · refine x_iload_n C rfl d_x_grow_61 ?_
        refine x_ifB_eq C d_x_grow_62 (fun hh => absurd hh (by decide)) (fun _ => ?_)
        have i2' : ∀ j, j < k + 1 → j < tn (gr N j) ∧ tn (gr N j) ≤ 1000 := fun j hj => by
          by_cases e : j = k
          · rw [e]; exact ⟨z, hle⟩
          · exact i2 j (by omega)
        have eG : gr N (k + 1) = if agn (gr N k) k then gr N k else exK N k (nT N) (gr N k) := rfl
        refine x_aload_n C rfl d_x_grow_65 ?_
        refine x_iload_n C rfl d_x_grow_66 ?_
        refine x_callVi C K s_x_167 (c_x_isAgain (e_l E) (j := k) hN hR hT x1 hle z) rfl rfl rfl rfl rfl rfl d_x_grow_67 (fun r σ3 hr => ?_)
        obtain ⟨rfl, rfl⟩ := hr
        refine x_ifB_ne C d_x_grow_70 (fun z2 => ?_) (fun z2 => ?_)
        · rw [eG, if_pos z2] at ih
          refine x_iconst C (nI 1) rfl d_x_grow_81 ?_
          refine x_goto C d_x_grow_82 ?_
          refine x_istore_n C 1 rfl rfl rfl d_x_grow_86 ?_
          dsimp only [xst]
          refine x_iincN (b := 1) C rfl rfl d_x_grow_87 ?_
          dsimp only [xst]
          refine x_goto C d_x_grow_90 ?_
          exact ih (true, τ) (by omega) ⟨(decide_eq_true hle).symm, f2, b19, b20, b22, i2', fun _ => ⟨x1, B, y1, y2.again z2⟩⟩
        · rw [eG, if_neg (by rw [z2]; decide)] at ih
          refine x_aload_n C rfl d_x_grow_73 ?_
          refine x_iload_n C rfl d_x_grow_74 ?_
          refine x_callVi C K s_x_170 (c_x_expand (e_l E) (T := gr N k) (j := k) (B := B) hN hR hT x1 hle z y1) rfl rfl rfl rfl rfl rfl d_x_grow_75 (fun r σ3 hr => ?_)
          obtain ⟨rfl, v1, v2⟩ := hr
          have g1 : frm [13, 16, 17, 18, 19, 20, 21, 22, 23] σ σ3 := f2.tr v1 (by decide)
          have g19 : σ3 19 0 = nI (nP N) := by rw [v1 19 (by decide)]; exact b19
          have g20 : σ3 20 0 = nI (nT N) := by rw [v1 20 (by decide)]; exact b20
          have g22 : σ3 22 0 = nI 0 := by rw [v1 22 (by decide)]; exact b22
          have hfin : tn (exK N k (nT N) (gr N k)) ≤ 1000 → tX (exK N k (nT N) (gr N k)) σ3 ∧ ∃ B, σ3 23 0 = lvI B ∧ lvX N (exK N k (nT N) (gr N k)) (k + 1) B := fun hh => by
            obtain ⟨w1, w2⟩ := v2 hh
            refine ⟨w1, _, w2, y2.expand z (exK_ok hN hT z (nT N)).2 (fun u hu => ?_)⟩
            obtain ⟨p1, -, p3⟩ := exK_old hN hT z hu (nT N)
            exact ⟨p1, p3⟩
          refine x_ifB_eq C d_x_grow_78 (fun z3 => ?_) (fun z3 => ?_)
          · refine x_iconst C (nI 0) rfl d_x_grow_85 ?_
            refine x_istore_n C 1 rfl rfl rfl d_x_grow_86 ?_
            dsimp only [xst]
            refine x_iincN (b := 1) C rfl rfl d_x_grow_87 ?_
            dsimp only [xst]
            refine x_goto C d_x_grow_90 ?_
            exact ih (false, σ3) (by omega) ⟨z3.symm, g1, g19, g20, g22, i2', hfin⟩
          · refine x_iconst C (nI 1) rfl d_x_grow_81 ?_
            refine x_goto C d_x_grow_82 ?_
            refine x_istore_n C 1 rfl rfl rfl d_x_grow_86 ?_
            dsimp only [xst]
            refine x_iincN (b := 1) C rfl rfl d_x_grow_87 ?_
            dsimp only [xst]
            refine x_goto C d_x_grow_90 ?_
            exact ih (true, σ3) (by omega) ⟨z3.symm, g1, g19, g20, g22, i2', hfin⟩
    · have hbig : 1000 < tn (gr N k) := by omega
      rw [decide_eq_false hle] at i1
      subst i1
      have out : Wx E 93 [.ref (q 0), .int (bI false), .int (nI k)] [] τ := by
        refine x_iload_n C rfl d_x_grow_93 ?_
        refine x_ifB_ne C d_x_grow_94 (fun hh => absurd hh (by decide)) (fun _ => ?_)
        refine x_aload_n C rfl d_x_grow_97 ?_
        refine x_iconst C (-1) rfl d_x_grow_98 ?_
        refine x_puti C K 20 rfl rfl rfl d_x_grow_99 ?_
        refine x_iconst C (-1) rfl d_x_grow_102 ?_
        exact R rfl ⟨k, ⟨Or.inr hbig, i2⟩, f2.up (by decide) _, Or.inr ⟨hbig, rfl, rfl⟩⟩ d_x_grow_103
      refine x_iload_n C rfl d_x_grow_53 ?_
      refine x_aload_n C rfl d_x_grow_54 ?_
      refine x_geti C K 18 rfl rfl d_x_grow_55 ?_
      refine x_icmp_ge C d_x_grow_58 (fun _ => out) (fun _ => ?_)
      refine x_iload_n C rfl d_x_grow_61 ?_
      exact x_ifB_eq C d_x_grow_62 (fun _ => out) (fun hh => absurd hh (by decide))
  · show σ2 19 0 = _
    rw [e16 19 (by decide)]; exact a19
  · show σ2 20 0 = _
    rw [e16 20 (by decide)]; exact a20
  · show σ2 22 0 = _
    rw [e16 22 (by decide)]; exact a22
  · have hj' : j < 1 := hj
    have : j = 0 := by omega
    subst this
    exact s3
  · have hj' : j < 1 := hj
    have : j = 0 := by omega
    subst this
    exact s5
  · show σ2 23 0 = _
    rw [e16 23 (by decide), a23]; rfl
end
section
/-! CoverRoundsModel: the tree -/
def tM (T : XT) (σ : XS) : Prop := σ 19 0 = nI (tn T) ∧ (∀ j, j < tn T → mkAt (σ 20) (5 * j) (tm T j)) ∧ ∀ j, j < tn T → σ 21 j = aI (ta T j)
theorem tM.fr {T : XT} {S : List Nat} {σ τ : XS} (h : tM T σ) (hf : frm S σ τ) (h1 : 19 ∉ S) (h2 : 20 ∉ S) (h3 : 21 ∉ S) : tM T τ := by
  refine ⟨?_, ?_, ?_⟩
  · rw [hf 19 h1]; exact h.1
  · rw [hf 20 h2]; exact h.2.1
  · rw [hf 21 h3]; exact h.2.2
theorem okN.b {P j : Nat} {m : Mk} (h : okN P j m) (hj : j ≤ 1001) : ∀ p, p < 5 → m p < 2 ^ 31 := fun p _ => by
  have := h.le hj p
  have hO : (OM : Nat) = 1000000 := rfl
  omega
theorem m1_neg : (-1 : Int32) < 0 := by decide
theorem c_m_isOld (l : Launch) {σ : XS} {P : Nat} {T : XT} {j : Nat} (hT : TOK P T) (hX : tM T σ) (hj : j < tn T) : XCi true l y_m_isOld b_m_isOld 4 .boolean 1 30 (fun q => [.ref (q 0), .int (nI j)]) σ (fun r σ' => r = bI (agn T j) ∧ σ = σ') := by
  refine XCi.of (by decide) rfl (fun _ => rfl) (fun _ => rfl) (fun E q cA hEl C K R => ?_)
  subst hEl
  have hn := hT.1
  have oj := (hT.2 j hj).2
  refine x_iconst C (nI 0) rfl d_m_isOld_0 ?_
  refine x_istore_n C 2 rfl rfl rfl d_m_isOld_1 ?_
  dsimp only [xst]
  refine x_aload_n C rfl d_m_isOld_2 ?_
  refine x_geta C K 21 rfl (by decide) d_m_isOld_3 ?_
  refine x_iload_n C rfl d_m_isOld_6 ?_
  refine x_iald C K (k := 21) (N := 1001) rfl rfl (by omega) (hX.2.2 j hj) d_m_isOld_7 ?_
  refine x_istore_n C 3 rfl rfl rfl d_m_isOld_8 ?_
  dsimp only [xst]
  refine x_while (fun (s : Option Nat × Bool) => Wx E 9 [.ref (q 0), .int (nI j), .int (bI s.2), .int (aI s.1)] [] σ) (fun s => (∀ u, s.1 = some u → u < tn T) ∧ agn T j = (s.2 || (chn T s.1).any (fun u => eqM (tm T u) (tm T j)))) (fun s => opN s.1) (fun s hI ih => ?_) (ta T j, false) ⟨fun u hu => by have := (hT.2 j hj).1 u hu; omega, rfl⟩
  obtain ⟨o, b⟩ := s
  obtain ⟨i1, i2⟩ := hI
  dsimp only at i1 i2 ih ⊢
  cases o with
  | none =>
    refine x_iload_n C rfl d_m_isOld_9 ?_
    refine x_if_lt C d_m_isOld_10 (fun _ => ?_) (fun z => absurd m1_neg z)
    refine x_iload_n C rfl d_m_isOld_73 ?_
    refine R (bI_nar _) ⟨?_, rfl⟩ d_m_isOld_74
    rw [i2]
    show bI b = bI (b || false)
    rw [Bool.or_false]
  | some u =>
    have hu := i1 u rfl
    have ou := (hT.2 u hu).2
    have cont : Wx E 62 [.ref (q 0), .int (nI j), .int (bI b), .int (nI u)] [.int (bI (b || eqM (tm T u) (tm T j)))] σ := by
      refine x_istore_n C 2 rfl rfl rfl d_m_isOld_62 ?_
      dsimp only [xst]
      refine x_aload_n C rfl d_m_isOld_63 ?_
      refine x_geta C K 21 rfl (by decide) d_m_isOld_64 ?_
      refine x_iload_n C rfl d_m_isOld_67 ?_
      refine x_iald C K (k := 21) (N := 1001) rfl rfl (by omega) (hX.2.2 u hu) d_m_isOld_68 ?_
      refine x_istore_n C 3 rfl rfl rfl d_m_isOld_69 ?_
      dsimp only [xst]
      refine x_goto C d_m_isOld_70 ?_
      refine ih (ta T u, b || eqM (tm T u) (tm T j)) ?_ ⟨fun v hv => by have := (hT.2 u hu).1 v hv; omega, ?_⟩
      · show opN (ta T u) < u + 1
        cases e : ta T u with
        | none => exact Nat.succ_pos _
        | some v => exact Nat.succ_lt_succ ((hT.2 u hu).1 v e)
      · rw [i2, chn_some hT hu, List.any_cons, Bool.or_assoc]
    refine x_iload_n C rfl d_m_isOld_9 ?_
    refine x_ifN_lt C (by omega) d_m_isOld_10 ?_
    refine x_iload_n C rfl d_m_isOld_13 ?_
    refine x_ifB_ne C d_m_isOld_14 (fun z => ?_) (fun z => ?_)
    · refine x_iconst C (nI 1) rfl d_m_isOld_57 ?_
      refine x_goto C d_m_isOld_58 ?_
      rw [show bI (b || eqM (tm T u) (tm T j)) = nI 1 by rw [z]; rfl] at cont
      exact cont
    · refine x_aload_n C rfl d_m_isOld_17 ?_
      refine x_geta C K 20 rfl (by decide) d_m_isOld_18 ?_
      refine x_iconst C (nI 5) rfl d_m_isOld_21 ?_
      refine x_iload_n C rfl d_m_isOld_22 ?_
      refine x_imulN C d_m_isOld_23 ?_
      refine x_aload_n C rfl d_m_isOld_24 ?_
      refine x_geta C K 20 rfl (by decide) d_m_isOld_25 ?_
      refine x_iconst C (nI 5) rfl d_m_isOld_28 ?_
      refine x_iload_n C rfl d_m_isOld_29 ?_
      refine x_imulN C d_m_isOld_30 ?_
      refine x_callSi C K s_m_83 (c_m_tops (e_l E) (k0 := 20) (n0 := 5005) (k2 := 20) (n2 := 5005) (a := 5 * u) (b := 5 * j) (u := tm T u) (v := tm T j) rfl rfl rfl rfl (by omega) (by omega) (hX.2.1 u hu) (hX.2.1 j hj) (ou.b (by omega)) (oj.b (by omega))) rfl rfl rfl rfl rfl rfl d_m_isOld_31 (fun r σ' hr => ?_)
      obtain ⟨rfl, rfl⟩ := hr
      refine x_ifB_eq C d_m_isOld_34 (fun z2 => ?_) (fun z2 => ?_)
      · refine x_iconst C (nI 0) rfl d_m_isOld_61 ?_
        rw [show bI (b || eqM (tm T u) (tm T j)) = nI 0 by rw [z, eqM, z2]; simp [bI]] at cont
        exact cont
      · refine x_aload_n C rfl d_m_isOld_37 ?_
        refine x_geta C K 20 rfl (by decide) d_m_isOld_38 ?_
        refine x_iconst C (nI 5) rfl d_m_isOld_41 ?_
        refine x_iload_n C rfl d_m_isOld_42 ?_
        refine x_imulN C d_m_isOld_43 ?_
        refine x_aload_n C rfl d_m_isOld_44 ?_
        refine x_geta C K 20 rfl (by decide) d_m_isOld_45 ?_
        refine x_iconst C (nI 5) rfl d_m_isOld_48 ?_
        refine x_iload_n C rfl d_m_isOld_49 ?_
        refine x_imulN C d_m_isOld_50 ?_
        refine x_callSi C K s_m_83 (c_m_tops (e_l E) (k0 := 20) (n0 := 5005) (k2 := 20) (n2 := 5005) (a := 5 * j) (b := 5 * u) (u := tm T j) (v := tm T u) rfl rfl rfl rfl (by omega) (by omega) (hX.2.1 j hj) (hX.2.1 u hu) (oj.b (by omega)) (ou.b (by omega))) rfl rfl rfl rfl rfl rfl d_m_isOld_51 (fun r σ' hr => ?_)
        obtain ⟨rfl, rfl⟩ := hr
        refine x_ifB_eq C d_m_isOld_54 (fun z3 => ?_) (fun z3 => ?_)
        · refine x_iconst C (nI 0) rfl d_m_isOld_61 ?_
          rw [show bI (b || eqM (tm T u) (tm T j)) = nI 0 by rw [z, eqM, z3]; simp [bI]] at cont
          exact cont
        · refine x_iconst C (nI 1) rfl d_m_isOld_57 ?_
          refine x_goto C d_m_isOld_58 ?_
          rw [show bI (b || eqM (tm T u) (tm T j)) = nI 1 by rw [eqM, z2, z3]; simp [bI]] at cont
          exact cont
theorem c_m_accelerate (l : Launch) {σ : XS} {P : Nat} {T : XT} {j : Nat} {w : Mk} (hP : P ≤ 5) (hT : TOK P T) (hX : tM T σ) (hj : j < tn T) (hw : mk0 (σ 25) w) (bw : ∀ p, w p ≤ OM) (zw : ∀ p, P ≤ p → w p = 0) : XCv true l y_m_accelerate b_m_accelerate 6 1 30 (fun q => [.ref (q 0), .int (nI j)]) σ (fun σ' => ∃ f, σ' = va_up σ 25 f ∧ mk0 f (Acc (cM T (some j)) w)) := by
  refine XCv.of (by decide) rfl (fun _ => rfl) (fun _ => rfl) (fun E q cA hEl C K R => ?_)
  subst hEl
  have hn := hT.1
  have hO : (OM : Nat) = 1000000 := rfl
  refine x_iconst C (nI 1) rfl d_m_accelerate_0 ?_
  refine x_istore_n C 2 rfl rfl rfl d_m_accelerate_1 ?_
  dsimp only [xst]
  have key := x_while (fun (s : Mk × (Nat → Int32)) => Wx E 2 [.ref (q 0), .int (nI j), .int (nI 1)] [] (va_up σ 25 s.2)) (fun s => accI (cM T (some j)) w s.1 ∧ mk0 s.2 s.1 ∧ (∀ p, P ≤ p → s.1 p = 0)) (fun s => cntO s.1) (fun s hI ih => ?_) (w, σ 25) ⟨accI.rf _ _, hw, zw⟩
  · rw [xueq] at key
    exact key
  · obtain ⟨z, f⟩ := s
    obtain ⟨i1, i2, i3⟩ := hI
    dsimp only at i1 i2 i3 ih ⊢
    refine x_iload_n C rfl d_m_accelerate_2 ?_
    refine x_ifB_eq (b := true) C d_m_accelerate_3 (fun hh => absurd hh (by decide)) (fun _ => ?_)
    refine x_iconst C (nI 0) rfl d_m_accelerate_6 ?_
    refine x_istore_n C 2 rfl rfl rfl d_m_accelerate_7 ?_
    dsimp only [xst]
    refine x_iload_n C rfl d_m_accelerate_8 ?_
    refine x_istore_n C 3 rfl rfl rfl d_m_accelerate_9 ?_
    dsimp only [xst]
    refine x_while (fun (s : Option Nat × Mk × Bool × (Nat → Int32)) => Wx E 10 [.ref (q 0), .int (nI j), .int (bI s.2.2.1), .int (aI s.1)] [] (va_up σ 25 s.2.2.2)) (fun s => accI (cM T (some j)) w s.2.1 ∧ mk0 s.2.2.2 s.2.1 ∧ (∀ p, P ≤ p → s.2.1 p = 0) ∧ (∀ u, s.1 = some u → u < tn T) ∧ ∃ pre, chn T (some j) = pre ++ chn T s.1 ∧ (s.2.2.1 = false → s.2.1 = z ∧ ∀ u, u ∈ pre → acc1 (tm T u) z = z) ∧ (s.2.2.1 = true → cntO s.2.1 < cntO z)) (fun s => opN s.1) (fun s hI2 ih2 => ?_) (some j, z, false, f) ⟨i1, i2, i3, fun u hu => by cases hu; exact hj, [], rfl, fun _ => ⟨rfl, fun u hu => by cases hu⟩, fun hh => by cases hh⟩
    obtain ⟨o, z', ch, f'⟩ := s
    obtain ⟨j1, j2, j3, j4, pre, j5, j6, j7⟩ := hI2
    dsimp only at j1 j2 j3 j4 j5 j6 j7 ih2 ⊢
    have bz := j1.le bw
    cases o with
    | none =>
      refine x_iload_n C rfl d_m_accelerate_10 ?_
      refine x_if_lt C d_m_accelerate_11 (fun _ => ?_) (fun zz => absurd m1_neg zz)
      cases ch with
      | true =>
        refine x_goto C d_m_accelerate_136 ?_
        refine x_take 3 ?_
        exact ih (z', f') (j7 rfl) ⟨j1, j2, j3⟩
      | false =>
        refine x_goto C d_m_accelerate_136 ?_
        refine x_iload_n C rfl d_m_accelerate_2 ?_
        refine x_ifB_eq (b := false) C d_m_accelerate_3 (fun _ => ?_) (fun hh => absurd hh (by decide))
        obtain ⟨k1, k2⟩ := j6 rfl
        subst k1
        refine R ⟨f', rfl, ?_⟩ d_m_accelerate_139
        have hA : isAcc (cM T (some j)) w z' := by
          refine ⟨j1, fun a ha => ?_⟩
          obtain ⟨u, hu, rfl⟩ := List.mem_map.mp ha
          rw [j5] at hu
          rcases List.mem_append.mp hu with h1 | h1
          · exact k2 u h1
          · cases h1
        rw [Acc_eq bw hA]
        exact j2
    | some u =>
      have hu := j4 u rfl
      have ou := (hT.2 u hu).2
      have humem : u ∈ chn T (some j) := by rw [j5, chn_some hT hu]; simp
      have mu := hX.2.1 u hu
      -- behind the places
      have next : ∀ (ch' : Bool) (f2 : Nat → Int32), mk0 f2 (acc1 (tm T u) z') → ((ch' = (ch || xany 5 (grB (tm T u) z')) ∧ leM (tm T u) z' = true) ∨ (ch' = ch ∧ acc1 (tm T u) z' = z')) → Wx E 126 [.ref (q 0), .int (nI j), .int (bI ch'), .int (nI u)] [] (va_up σ 25 f2) := by
        intro ch' f2 hf2 hch
        refine x_aload_n C rfl d_m_accelerate_126 ?_
        refine x_geta C K 21 rfl (by decide) d_m_accelerate_127 ?_
        refine x_iload_n C rfl d_m_accelerate_130 ?_
        refine x_iald C K (k := 21) (N := 1001) rfl rfl (by omega) (hX.2.2 u hu) d_m_accelerate_131 ?_
        refine x_istore_n C 3 rfl rfl rfl d_m_accelerate_132 ?_
        dsimp only [xst]
        refine x_goto C d_m_accelerate_133 ?_
        have no : leM (tm T u) z' = true → xany 5 (grB (tm T u) z') = false → acc1 (tm T u) z' = z' := fun h1 hx => by
          rw [grw_acc h1 bz]
          exact grw_no (P := 5) (fun p hp => j3 p (by omega)) hx
        have yes : leM (tm T u) z' = true → xany 5 (grB (tm T u) z') = true → cntO (acc1 (tm T u) z') < cntO z' := fun h1 hx => by
          rw [grw_acc h1 bz]
          exact grw_cnt (P := 5) (by omega) hx
        have cle : cntO z' ≤ cntO z := by
          cases ch with
          | false => rw [(j6 rfl).1]; exact Nat.le_refl _
          | true => exact Nat.le_of_lt (j7 rfl)
        have stF : ch' = false → ch = false ∧ acc1 (tm T u) z' = z' := fun hc => by
          rcases hch with ⟨h1, h2⟩ | h1
          · rw [hc] at h1
            have h3 := h1.symm
            simp only [Bool.or_eq_false_iff] at h3
            exact ⟨h3.1, no h2 h3.2⟩
          · exact ⟨by rw [← h1.1]; exact hc, h1.2⟩
        have stT : ch' = true → cntO (acc1 (tm T u) z') < cntO z := fun hc => by
          rcases hch with ⟨h1, h2⟩ | h1
          · cases hx : xany 5 (grB (tm T u) z') with
            | true =>
              have := yes h2 hx
              omega
            | false =>
              rw [hx, Bool.or_false, hc] at h1
              rw [no h2 hx]
              exact j7 h1.symm
          · rw [h1.2]
            rw [h1.1] at hc
            exact j7 hc
        refine ih2 (ta T u, acc1 (tm T u) z', ch', f2) ?_ ⟨j1.step (List.mem_map.mpr ⟨u, humem, rfl⟩) bz, hf2, acc1_0 j3, fun v hv => by have := (hT.2 u hu).1 v hv; omega, pre ++ [u], ?_, fun hc => ?_, stT⟩
        · show opN (ta T u) < u + 1
          cases e : ta T u with
          | none => exact Nat.succ_pos _
          | some v => exact Nat.succ_lt_succ ((hT.2 u hu).1 v e)
        · rw [j5, chn_some hT hu]; simp
        · have both := stF hc
          obtain ⟨k1, k2⟩ := j6 both.1
          refine ⟨by show acc1 (tm T u) z' = z; rw [both.2]; exact k1, fun v hv => ?_⟩
          rcases List.mem_append.mp hv with h1 | h1
          · exact k2 v h1
          · rw [List.mem_singleton.mp h1]
            rw [← k1]
            exact both.2
      refine x_iload_n C rfl d_m_accelerate_10 ?_
      refine x_ifN_lt C (by omega) d_m_accelerate_11 ?_
      refine x_aload_n C rfl d_m_accelerate_14 ?_
      refine x_geta C K 25 rfl (by decide) d_m_accelerate_15 ?_
      refine x_iconst C (nI 0) rfl d_m_accelerate_18 ?_
      refine x_aload_n C rfl d_m_accelerate_19 ?_
      refine x_geta C K 20 rfl (by decide) d_m_accelerate_20 ?_
      refine x_iconst C (nI 5) rfl d_m_accelerate_23 ?_
      refine x_iload_n C rfl d_m_accelerate_24 ?_
      refine x_imulN C d_m_accelerate_25 ?_
      refine x_callSi C K s_m_83 (c_m_tops (e_l E) (k0 := 25) (n0 := 5) (k2 := 20) (n2 := 5005) (a := 0) (b := 5 * u) (u := z') (v := tm T u) rfl rfl rfl rfl (by omega) (by omega) j2.at mu (fun p _ => by have := bz p; omega) (ou.b (by omega))) rfl rfl rfl rfl rfl rfl d_m_accelerate_26 (fun r σ' hr => ?_)
      obtain ⟨rfl, rfl⟩ := hr
      refine x_ifB_eq C d_m_accelerate_29 (fun z1 => ?_) (fun z1 => ?_)
      · have hid : acc1 (tm T u) z' = z' := by rw [acc1, if_neg (by rw [z1]; decide)]
        exact next ch f' (by rw [hid]; exact j2) (Or.inr ⟨rfl, hid⟩)
      · refine x_iconst C (nI 0) rfl d_m_accelerate_32 ?_
        refine x_istore C rfl rfl d_m_accelerate_33 ?_
        dsimp only [xst]
        refine x_forS (fun p (s : Bool × (Nat → Int32)) => Wx E 35 [.ref (q 0), .int (nI j), .int (bI s.1), .int (nI u), .int (nI p)] [] (va_up σ 25 s.2)) (fun p s => s.1 = (ch || xany p (grB (tm T u) z')) ∧ (∀ p', p' < p → s.2 p' = nI (grw (tm T u) z' p')) ∧ ∀ p', p ≤ p' → p' < 5 → s.2 p' = nI (z' p')) 5 (fun p s hp hI3 ih3 => ?_) 0 (ch, f') (Nat.zero_le _) ⟨by simp [xany], fun p' hp' => absurd hp' (by omega), fun p' _ hp' => j2 p' hp'⟩
        obtain ⟨c3, f3⟩ := s
        obtain ⟨k1, k2, k3⟩ := hI3
        dsimp only at k1 k2 k3 ih3 ⊢
        refine x_iload C rfl d_m_accelerate_35 ?_
        refine x_iconst C (nI 5) rfl d_m_accelerate_37 ?_
        refine x_icmpN_ge C (by omega) (by omega) d_m_accelerate_38 (fun z2 => ?_) (fun z2 => ?_)
        · refine x_take 4 ?_
          have e : p = 5 := by omega
          subst e
          refine next c3 f3 ?_ (Or.inl ⟨k1, z1⟩)
          rw [grw_acc z1 bz]
          exact fun p' hp' => k2 p' hp'
        · have b1 := bz p
          have b2 := ou.le (by omega) p
          have hv := k3 p (Nat.le_refl _) z2
          -- more is known
          have at79 : ∀ m : Bool, m = grB (tm T u) z' p → Wx E 79 [.ref (q 0), .int (nI j), .int (bI c3), .int (nI u), .int (nI p)] [.int (bI m)] (va_up σ 25 f3) := by
            intro m hm
            have at104 : Wx E 104 [.ref (q 0), .int (nI j), .int (bI c3), .int (nI u), .int (nI p), .int (bI m)] [.int (nI (grw (tm T u) z' p)), .int (nI p), .ref (q 25)] (va_up σ 25 f3) := by
              have at119 : Wx E 119 [.ref (q 0), .int (nI j), .int (bI c3), .int (nI u), .int (nI p), .int (bI m)] [.int (bI (c3 || m))] (va_up σ 25 (upd f3 p (nI (grw (tm T u) z' p)))) := by
                refine x_istore_n C 2 rfl rfl rfl d_m_accelerate_119 ?_
                dsimp only [xst]
                refine x_iincN (b := 1) C rfl rfl d_m_accelerate_120 ?_
                dsimp only [xst]
                refine x_goto C d_m_accelerate_123 ?_
                refine x_take 5 ?_
                refine ih3 (c3 || m, upd f3 p (nI (grw (tm T u) z' p))) z2 ⟨?_, fun p' hp' => ?_, fun p' h1 h2 => ?_⟩
                · rw [k1, hm, xany, Bool.or_assoc]
                · show upd f3 p _ p' = _
                  by_cases e : p' = p
                  · rw [e, upd_s]
                  · rw [upd_n _ _ e]; exact k2 p' (by omega)
                · show upd f3 p _ p' = _
                  rw [upd_n _ _ (by omega)]; exact k3 p' (by omega) h2
              refine x_iast C K (k := 25) (N := 5) rfl rfl (by omega) d_m_accelerate_104 ?_
              refine x_iload_n C rfl d_m_accelerate_105 ?_
              rw [xuu, xus]
              refine x_ifB_ne C d_m_accelerate_106 (fun zc => ?_) (fun zc => ?_)
              · refine x_iconst C (nI 1) rfl d_m_accelerate_114 ?_
                refine x_goto C d_m_accelerate_115 ?_
                rw [show bI (c3 || m) = nI 1 by rw [zc]; rfl] at at119
                exact at119
              · refine x_iload C rfl d_m_accelerate_109 ?_
                refine x_ifB_eq C d_m_accelerate_111 (fun zm => ?_) (fun zm => ?_)
                · refine x_iconst C (nI 0) rfl d_m_accelerate_118 ?_
                  rw [show bI (c3 || m) = nI 0 by rw [zc, zm]; rfl] at at119
                  exact at119
                · refine x_iconst C (nI 1) rfl d_m_accelerate_114 ?_
                  refine x_goto C d_m_accelerate_115 ?_
                  rw [show bI (c3 || m) = nI 1 by rw [zm]; simp [bI]] at at119
                  exact at119
            refine x_istore C rfl rfl d_m_accelerate_79 ?_
            dsimp only [xst]
            refine x_aload_n C rfl d_m_accelerate_81 ?_
            refine x_geta C K 25 rfl (by decide) d_m_accelerate_82 ?_
            refine x_iload C rfl d_m_accelerate_85 ?_
            refine x_iload C rfl d_m_accelerate_87 ?_
            refine x_ifB_eq C d_m_accelerate_89 (fun zm => ?_) (fun zm => ?_)
            · have eg : grw (tm T u) z' p = z' p := by
                show (if tm T u p < z' p ∧ z' p ≠ OM then OM else z' p) = z' p
                rw [if_neg]
                intro hh
                rw [zm] at hm
                have h9 := hm.symm
                simp only [grB, hh.1, hh.2, decide_true, decide_false, Bool.not_false, Bool.and_true] at h9
                cases h9
              rw [eg] at at104
              refine x_aload_n C rfl d_m_accelerate_97 ?_
              refine x_geta C K 25 rfl (by decide) d_m_accelerate_98 ?_
              refine x_iload C rfl d_m_accelerate_101 ?_
              refine x_iald C K (k := 25) (N := 5) rfl rfl (by omega) hv d_m_accelerate_103 ?_
              exact at104
            · have eg : grw (tm T u) z' p = OM := by
                rw [zm] at hm
                have h9 := hm.symm
                simp only [grB, Bool.and_eq_true, decide_eq_true_eq, Bool.not_eq_true', decide_eq_false_iff_not] at h9
                exact if_pos h9
              rw [eg] at at104
              refine x_ldc C (nI 1000000) tb_cm123 rfl d_m_accelerate_92 ?_
              refine x_goto C d_m_accelerate_94 ?_
              exact at104
          refine x_aload_n C rfl d_m_accelerate_41 ?_
          refine x_geta C K 25 rfl (by decide) d_m_accelerate_42 ?_
          refine x_iload C rfl d_m_accelerate_45 ?_
          refine x_iald C K (k := 25) (N := 5) rfl rfl (by omega) hv d_m_accelerate_47 ?_
          refine x_aload_n C rfl d_m_accelerate_48 ?_
          refine x_geta C K 20 rfl (by decide) d_m_accelerate_49 ?_
          refine x_iconst C (nI 5) rfl d_m_accelerate_52 ?_
          refine x_iload_n C rfl d_m_accelerate_53 ?_
          refine x_imulN C d_m_accelerate_54 ?_
          refine x_iload C rfl d_m_accelerate_55 ?_
          refine x_iaddN C d_m_accelerate_57 ?_
          refine x_iald C K (k := 20) (N := 5005) rfl rfl (by omega) (mu p z2) d_m_accelerate_58 ?_
          refine x_icmpN_le C (by omega) (by omega) d_m_accelerate_59 (fun z3 => ?_) (fun z3 => ?_)
          · refine x_iconst C (nI 0) rfl d_m_accelerate_78 ?_
            exact at79 false (by simp [grB]; intro hh; omega)
          · refine x_aload_n C rfl d_m_accelerate_62 ?_
            refine x_geta C K 25 rfl (by decide) d_m_accelerate_63 ?_
            refine x_iload C rfl d_m_accelerate_66 ?_
            refine x_iald C K (k := 25) (N := 5) rfl rfl (by omega) hv d_m_accelerate_68 ?_
            refine x_ldc C (nI 1000000) tb_cm123 rfl d_m_accelerate_69 ?_
            refine x_icmpN_ge C (by omega) (by omega) d_m_accelerate_71 (fun z4 => ?_) (fun z4 => ?_)
            · refine x_iconst C (nI 0) rfl d_m_accelerate_78 ?_
              exact at79 false (by simp [grB]; intro _; omega)
            · refine x_iconst C (nI 1) rfl d_m_accelerate_74 ?_
              refine x_goto C d_m_accelerate_75 ?_
              exact at79 true (by simp [grB, z3]; omega)
end
section
theorem sub_0 {a b : Nat} (ha : a < 2 ^ 30) (hb : b < 2 ^ 30) : nI a - nI b = 0 ↔ a = b := by
  constructor
  · intro h
    have h1 := congrArg Int32.toInt h
    rw [pk_sub_toInt ha hb] at h1
    have e : (0 : Int32).toInt = 0 := by decide
    omega
  · intro h
    subst h
    rw [pk_sub (Nat.le_refl _), Nat.sub_self]; rfl
theorem c_m_isBefore (l : Launch) {σ : XS} {i j : Nat} {a b : Mk} (hi : i < 1001) (hj : j < 1001) (ha : mkAt (σ 20) (5 * i) a) (hb : mkAt (σ 20) (5 * j) b) (ba : ∀ p, a p ≤ OM) (bb : ∀ p, b p ≤ OM) : XCi true l y_m_isBefore b_m_isBefore 5 .boolean 0 0 (fun q => [.ref (q 0), .int (nI i), .int (nI j)]) σ (fun r σ' => r = bI (lssM a b) ∧ σ = σ') := by
  refine XCi.of (by decide) rfl (fun _ => rfl) (fun _ => rfl) (fun E q cA hEl C K R => ?_)
  have hO : (OM : Nat) = 1000000 := rfl
  refine x_iconst C (nI 0) rfl d_m_isBefore_0 ?_
  refine x_istore_n C 3 rfl rfl rfl d_m_isBefore_1 ?_
  dsimp only [xst]
  refine x_forS (fun p (_ : Unit) => Wx E 2 [.ref (q 0), .int (nI i), .int (nI j), .int (nI p)] [] σ) (fun p _ => lssM a b = lsN a b (5 - p) p) 5 (fun p _ hp hI ih => ?_) 0 () (Nat.zero_le _) rfl
  refine x_iload_n C rfl d_m_isBefore_2 ?_
  refine x_iconst C (nI 5) rfl d_m_isBefore_3 ?_
  refine x_icmpN_ge C (by omega) (by omega) d_m_isBefore_4 (fun z => ?_) (fun z => ?_)
  · have e : p = 5 := by omega
    subst e
    refine x_iconst C (nI 0) rfl d_m_isBefore_52 ?_
    exact R (bI_nar false) ⟨by rw [hI]; rfl, rfl⟩ d_m_isBefore_53
  · have b1 := ba p
    have b2 := bb p
    have e5 : 5 - p = (5 - (p + 1)) + 1 := by omega
    rw [e5, lsN] at hI
    refine x_aload_n C rfl d_m_isBefore_7 ?_
    refine x_geta C K 20 rfl (by decide) d_m_isBefore_8 ?_
    refine x_iconst C (nI 5) rfl d_m_isBefore_11 ?_
    refine x_iload_n C rfl d_m_isBefore_12 ?_
    refine x_imulN C d_m_isBefore_13 ?_
    refine x_iload_n C rfl d_m_isBefore_14 ?_
    refine x_iaddN C d_m_isBefore_15 ?_
    refine x_iald C K (k := 20) (N := 5005) rfl rfl (by omega) (ha p z) d_m_isBefore_16 ?_
    refine x_aload_n C rfl d_m_isBefore_17 ?_
    refine x_geta C K 20 rfl (by decide) d_m_isBefore_18 ?_
    refine x_iconst C (nI 5) rfl d_m_isBefore_21 ?_
    refine x_iload_n C rfl d_m_isBefore_22 ?_
    refine x_imulN C d_m_isBefore_23 ?_
    refine x_iload_n C rfl d_m_isBefore_24 ?_
    refine x_iaddN C d_m_isBefore_25 ?_
    refine x_iald C K (k := 20) (N := 5005) rfl rfl (by omega) (hb p z) d_m_isBefore_26 ?_
    refine x_isub C d_m_isBefore_27 ?_
    refine x_istore C rfl rfl d_m_isBefore_28 ?_
    dsimp only [xst]
    refine x_iload C rfl d_m_isBefore_30 ?_
    refine x_if_eq C d_m_isBefore_32 (fun z2 => ?_) (fun z2 => ?_)
    · have e : a p = b p := (sub_0 (by omega) (by omega)).mp z2
      rw [if_pos e] at hI
      refine x_iincN (b := 1) C rfl rfl d_m_isBefore_46 ?_
      dsimp only [xst]
      refine x_goto C d_m_isBefore_49 ?_
      refine x_take 4 ?_
      exact ih () z hI
    · have e : ¬ a p = b p := fun e => z2 ((sub_0 (by omega) (by omega)).mpr e)
      rw [if_neg e] at hI
      refine x_iload C rfl d_m_isBefore_35 ?_
      refine x_if_ge C d_m_isBefore_37 (fun z3 => ?_) (fun z3 => ?_)
      · refine x_iconst C (nI 0) rfl d_m_isBefore_44 ?_
        refine R (bI_nar false) ⟨?_, rfl⟩ d_m_isBefore_45
        rw [hI, decide_eq_false (fun hlt => absurd z3 (Int32.not_le.mpr (pk_sneg (by omega) hlt)))]; rfl
      · refine x_iconst C (nI 1) rfl d_m_isBefore_40 ?_
        refine x_goto C d_m_isBefore_41 ?_
        refine R (bI_nar true) ⟨?_, rfl⟩ d_m_isBefore_45
        have hlt : a p < b p := by
          rcases Nat.lt_or_ge (a p) (b p) with h1 | h1
          · exact h1
          · exfalso
            apply z3
            rw [pk_sub h1]
            exact nI_pos' (by omega)
        rw [hI, decide_eq_true hlt]; rfl
def lvJ (N : XNet) (T : XT) (j : Nat) : Nat → Bool := fun s => decide (s < nT N) && xany j (fun i => leM (ntk N s) (tm T i))
theorem lvJ_s {N : XNet} {T : XT} {j : Nat} : lvI (lvE N T j (nT N) (lvJ N T j)) = lvI (lvJ N T (j + 1)) := by
  apply lvI_congr
  intro s _
  simp only [lvE, lvJ, xany]
  cases decide (s < nT N) <;> simp
theorem or_0 (x : Int32) : x ||| nI 0 = x := by
  show x ||| 0 = x
  simp
theorem c_m_tellTree (l : Launch) {σ : XS} {N : XNet} {T : XT} (hN : NOK N) (h : RM N σ) (hT : TOK (nP N) T) (hX : tM T σ) (hn : tn T ≤ 1000) : XCv true l y_m_tellTree b_m_tellTree 6 2 60 (fun q => [.ref (q 0)]) σ (fun σ' => frm [22, 23, 24] σ σ' ∧ σ' 22 0 = lvI (lvB N T) ∧ σ' 23 0 = nI (tf T (tn T)).1 ∧ ∀ k, k < (tf T (tn T)).1 → σ' 24 k = nI ((tf T (tn T)).2 k)) := by
  refine XCv.of (by decide) rfl (fun _ => rfl) (fun _ => rfl) (fun E q cA hEl C K R => ?_)
  subst hEl
  have h6 := hN.2.1
  refine x_aload_n C rfl d_m_tellTree_0 ?_
  refine x_iconst C (nI 0) rfl d_m_tellTree_1 ?_
  refine x_puti C K 22 rfl rfl rfl d_m_tellTree_2 ?_
  refine x_iconst C (nI 0) rfl d_m_tellTree_5 ?_
  refine x_istore_n C 1 rfl rfl rfl d_m_tellTree_6 ?_
  dsimp only [xst]
  refine x_forS (fun j τ => Wx E 7 [.ref (q 0), .int (nI j)] [] τ) (fun j τ => frm [22, 23, 24] σ τ ∧ τ 22 0 = lvI (lvJ N T j)) (tn T) (fun j τ hj hI ih => ?_) 0 (va_up σ 22 (fun _ => nI 0)) (Nat.zero_le _) ⟨(frm.rf _ σ).up (by decide) _, by
    rw [show lvI (lvJ N T 0) = lvI (fun _ => false) from lvI_congr (fun t _ => by simp [lvJ, xany])]; rfl⟩
  obtain ⟨f1, l1⟩ := hI
  have x1 : tM T τ := hX.fr f1 (by decide) (by decide) (by decide)
  refine x_iload_n C rfl d_m_tellTree_7 ?_
  refine x_aload_n C rfl d_m_tellTree_8 ?_
  refine x_getv C K 19 rfl rfl x1.1 d_m_tellTree_9 ?_
  refine x_icmpN_ge C (by omega) (by omega) d_m_tellTree_12 (fun z => ?_) (fun z => ?_)
  · have e : j = tn T := by omega
    subst e
    have l1' : τ 22 0 = lvI (lvB N T) := l1
    refine x_aload_n C rfl d_m_tellTree_68 ?_
    refine x_iconst C (nI 0) rfl d_m_tellTree_69 ?_
    refine x_puti C K 23 rfl rfl rfl d_m_tellTree_70 ?_
    refine x_iconst C (nI 0) rfl d_m_tellTree_73 ?_
    refine x_istore_n C 1 rfl rfl rfl d_m_tellTree_74 ?_
    dsimp only [xst]
    refine x_take 2 ?_
    refine x_forS (fun j υ => Wx E 75 [.ref (q 0), .int (nI j)] [] υ) (fun j υ => frm [22, 23, 24] σ υ ∧ υ 22 0 = lvI (lvB N T) ∧ υ 23 0 = nI (tf T j).1 ∧ ∀ k, k < (tf T j).1 → υ 24 k = nI ((tf T j).2 k)) (tn T) (fun j υ hj hI ih => ?_) 0 (va_up τ 23 (fun _ => nI 0)) (Nat.zero_le _) ⟨f1.up (by decide) _, l1', rfl, fun k hk => absurd hk (Nat.not_lt_zero k)⟩
    obtain ⟨f1, l1, c1, t1⟩ := hI
    have x1 : tM T υ := hX.fr f1 (by decide) (by decide) (by decide)
    have cl := tf_le T j
    have tl := tf_lt T j
    refine x_iload_n C rfl d_m_tellTree_75 ?_
    refine x_aload_n C rfl d_m_tellTree_76 ?_
    refine x_getv C K 19 rfl rfl x1.1 d_m_tellTree_77 ?_
    refine x_icmpN_ge C (by omega) (by omega) d_m_tellTree_80 (fun z => ?_) (fun z => ?_)
    · have e : j = tn T := by omega
      subst e
      exact R ⟨f1, l1, c1, t1⟩ d_m_tellTree_249
    · have oj := (hT.2 j z).2
      have eT1 : tf T (j + 1) = if topB T j then ((tf T j).1 + 1, ins T j (tf T j).1 (tf T j).2) else tf T j := rfl
      have after : ∀ (b : Bool) (k : Nat), b = topB T j → Wx E 177 [.ref (q 0), .int (nI j), .int (bI b), .int (nI k)] [] υ := by
        intro b k hb
        refine x_iload_n C rfl d_m_tellTree_177 ?_
        refine x_ifB_eq C d_m_tellTree_178 (fun z2 => ?_) (fun z2 => ?_)
        · refine x_iincN (b := 1) C rfl rfl d_m_tellTree_243 ?_
          dsimp only [xst]
          refine x_goto C d_m_tellTree_246 ?_
          refine x_take 2 ?_
          rw [eT1, if_neg (by rw [← hb, z2]; decide)] at ih
          exact ih υ z ⟨f1, l1, c1, t1⟩
        · rw [eT1, if_pos (by rw [← hb, z2])] at ih
          refine x_aload_n C rfl d_m_tellTree_181 ?_
          refine x_getv C K 23 rfl rfl c1 d_m_tellTree_182 ?_
          refine x_istore_n C 3 rfl rfl rfl d_m_tellTree_185 ?_
          dsimp only [xst]
          generalize hc : (tf T j).1 = c at *
          generalize htp : (tf T j).2 = tp0 at *
          have key := x_while (fun (s : Nat × (Nat → Nat) × (Nat → Int32)) => Wx E 186 [.ref (q 0), .int (nI j), .int (bI b), .int (nI s.1)] [] (va_up υ 24 s.2.2)) (fun s => s.1 ≤ c ∧ ins T j s.1 s.2.1 = ins T j c tp0 ∧ (∀ i, i < s.1 → s.2.1 i < j) ∧ ∀ i, i ≤ c → i ≠ s.1 → s.2.2 i = nI (s.2.1 i)) (fun s => s.1) (fun s hI2 ih2 => ?_) (c, tp0, υ 24) ⟨Nat.le_refl _, rfl, tl, fun i h1 h2 => t1 i (by omega)⟩
          · rw [xueq] at key
            exact key
          · obtain ⟨k, tp, g⟩ := s
            obtain ⟨k1, k2, k3, k4⟩ := hI2
            dsimp only at k1 k2 k3 k4 ih2 ⊢
            have put : ins T j k tp = upN tp k j → Wx E 226 [.ref (q 0), .int (nI j), .int (bI b), .int (nI k)] [] (va_up υ 24 g) := by
              intro hins
              refine x_aload_n C rfl d_m_tellTree_226 ?_
              refine x_geta C K 24 rfl (by decide) d_m_tellTree_227 ?_
              refine x_iload_n C rfl d_m_tellTree_230 ?_
              refine x_iload_n C rfl d_m_tellTree_231 ?_
              refine x_iast C K (k := 24) (N := 1001) rfl rfl (by omega) d_m_tellTree_232 ?_
              refine x_aload_n C rfl d_m_tellTree_233 ?_
              refine x_dup C rfl d_m_tellTree_234 ?_
              refine x_getv C K 23 rfl rfl c1 d_m_tellTree_235 ?_
              refine x_iconst C (nI 1) rfl d_m_tellTree_238 ?_
              refine x_iaddN C d_m_tellTree_239 ?_
              refine x_puti C K 23 rfl rfl rfl d_m_tellTree_240 ?_
              refine x_iincN (b := 1) C rfl rfl d_m_tellTree_243 ?_
              dsimp only [xst]
              refine x_goto C d_m_tellTree_246 ?_
              rw [xuu, xus]
              refine x_take 2 ?_
              refine ih (va_up (va_up υ 24 (upd g k (nI j))) 23 (fun _ => nI (c + 1))) z ⟨(f1.up (by decide) _).up (by decide) _, l1, rfl, fun i hi => ?_⟩
              have hi' : i < c + 1 := hi
              show upd g k (nI j) i = nI (ins T j c tp0 i)
              rw [← k2, hins]
              by_cases e : i = k
              · rw [e, upd_s]; simp [upN]
              · rw [upd_n _ _ e, k4 i (by omega) e]; simp [upN, e]
            refine x_iload_n C rfl d_m_tellTree_186 ?_
            refine x_ifN_le C (by omega) d_m_tellTree_187 (fun z3 => put (by rw [z3]; rfl)) (fun z3 => ?_)
            obtain ⟨k', rfl⟩ : ∃ k', k = k' + 1 := ⟨k - 1, by omega⟩
            have hk' := k3 k' (by omega)
            have hv : va_up υ 24 g 24 (k' + 1 - 1) = nI (tp k') := by rw [xus]; exact k4 k' (by omega) (by omega)
            have o2 := (hT.2 (tp k') (by omega)).2
            refine x_aload_n C rfl d_m_tellTree_190 ?_
            refine x_iload_n C rfl d_m_tellTree_191 ?_
            refine x_aload_n C rfl d_m_tellTree_192 ?_
            refine x_geta C K 24 rfl (by decide) d_m_tellTree_193 ?_
            refine x_iload_n C rfl d_m_tellTree_196 ?_
            refine x_iconst C (nI 1) rfl d_m_tellTree_197 ?_
            refine x_isubN C (by omega) d_m_tellTree_198 ?_
            refine x_iald C K (k := 24) (N := 1001) rfl rfl (by omega) hv d_m_tellTree_199 ?_
            refine x_callVi C K s_m_150 (c_m_isBefore (e_l E) (i := j) (j := tp k') (by omega) (by omega) (x1.2.1 j z) (x1.2.1 (tp k') (by omega)) (oj.le (by omega)) (o2.le (by omega))) rfl rfl rfl rfl rfl rfl d_m_tellTree_200 (fun r σ' hr => ?_)
            obtain ⟨rfl, rfl⟩ := hr
            refine x_ifB_eq C d_m_tellTree_203 (fun z4 => put (by rw [ins, z4]; rfl)) (fun z4 => ?_)
            refine x_aload_n C rfl d_m_tellTree_206 ?_
            refine x_geta C K 24 rfl (by decide) d_m_tellTree_207 ?_
            refine x_iload_n C rfl d_m_tellTree_210 ?_
            refine x_aload_n C rfl d_m_tellTree_211 ?_
            refine x_geta C K 24 rfl (by decide) d_m_tellTree_212 ?_
            refine x_iload_n C rfl d_m_tellTree_215 ?_
            refine x_iconst C (nI 1) rfl d_m_tellTree_216 ?_
            refine x_isubN C (by omega) d_m_tellTree_217 ?_
            refine x_iald C K (k := 24) (N := 1001) rfl rfl (by omega) hv d_m_tellTree_218 ?_
            refine x_iast C K (k := 24) (N := 1001) rfl rfl (by omega) d_m_tellTree_219 ?_
            refine x_idecN C rfl (by omega) rfl d_m_tellTree_220 ?_
            dsimp only [xst]
            refine x_goto C d_m_tellTree_223 ?_
            rw [xuu, xus]
            refine ih2 (k', upN tp (k' + 1) (tp k'), upd g (k' + 1) (nI (tp k'))) (Nat.lt_succ_self _) ⟨by omega, ?_, fun i hi => ?_, fun i h1 h2 => ?_⟩
            · rw [← k2, ins, z4]; rfl
            · show upN tp (k' + 1) (tp k') i < j
              simp only [upN]
              rw [if_neg (by omega)]
              exact k3 i (by omega)
            · show upd g (k' + 1) (nI (tp k')) i = nI (upN tp (k' + 1) (tp k') i)
              by_cases e : i = k' + 1
              · rw [e, upd_s]; simp [upN]
              · rw [upd_n _ _ e, k4 i h1 e]; simp [upN, e]
      refine x_iconst C (nI 1) rfl d_m_tellTree_83 ?_
      refine x_istore_n C 2 rfl rfl rfl d_m_tellTree_84 ?_
      dsimp only [xst]
      refine x_iconst C (nI 0) rfl d_m_tellTree_85 ?_
      refine x_istore_n C 3 rfl rfl rfl d_m_tellTree_86 ?_
      dsimp only [xst]
      refine x_for (fun k => Wx E 87 [.ref (q 0), .int (nI j), .int (bI (xall k (fun k => !leM (tm T j) (tm T k) || (leM (tm T k) (tm T j) && decide (j ≤ k))))), .int (nI k)] [] υ) (tn T) (fun k hk ih2 => ?_) 0 (Nat.zero_le _)
      refine x_iload_n C rfl d_m_tellTree_87 ?_
      refine x_aload_n C rfl d_m_tellTree_88 ?_
      refine x_getv C K 19 rfl rfl x1.1 d_m_tellTree_89 ?_
      refine x_icmpN_ge C (by omega) (by omega) d_m_tellTree_92 (fun z2 => ?_) (fun z2 => ?_)
      · have e : k = tn T := by omega
        subst e
        exact after _ _ rfl
      · have ok := (hT.2 k z2).2
        have ih2' := ih2 z2
        rw [xall] at ih2'
        generalize xall k (fun k => !leM (tm T j) (tm T k) || (leM (tm T k) (tm T j) && decide (j ≤ k))) = b at ih2' ⊢
        refine x_aload_n C rfl d_m_tellTree_95 ?_
        refine x_geta C K 20 rfl (by decide) d_m_tellTree_96 ?_
        refine x_iconst C (nI 5) rfl d_m_tellTree_99 ?_
        refine x_iload_n C rfl d_m_tellTree_100 ?_
        refine x_imulN C d_m_tellTree_101 ?_
        refine x_aload_n C rfl d_m_tellTree_102 ?_
        refine x_geta C K 20 rfl (by decide) d_m_tellTree_103 ?_
        refine x_iconst C (nI 5) rfl d_m_tellTree_106 ?_
        refine x_iload_n C rfl d_m_tellTree_107 ?_
        refine x_imulN C d_m_tellTree_108 ?_
        refine x_callSi C K s_m_83 (c_m_tops (e_l E) (k0 := 20) (n0 := 5005) (k2 := 20) (n2 := 5005) (a := 5 * k) (b := 5 * j) (u := tm T k) (v := tm T j) rfl rfl rfl rfl (by omega) (by omega) (x1.2.1 k z2) (x1.2.1 j z) (ok.b (by omega)) (oj.b (by omega))) rfl rfl rfl rfl rfl rfl d_m_tellTree_109 (fun r σ' hr => ?_)
        obtain ⟨rfl, rfl⟩ := hr
        have at144 : ∀ sm : Bool, sm = (leM (tm T j) (tm T k) && leM (tm T k) (tm T j)) → Wx E 144 [.ref (q 0), .int (nI j), .int (bI b), .int (nI k), .int (bI (leM (tm T j) (tm T k)))] [.int (bI sm)] υ := by
          intro sm hsm
          have at170 : ∀ v : Bool, v = (b && (!leM (tm T j) (tm T k) || (leM (tm T k) (tm T j) && decide (j ≤ k)))) → Wx E 170 [.ref (q 0), .int (nI j), .int (bI b), .int (nI k), .int (bI (leM (tm T j) (tm T k))), .int (bI sm)] [.int (bI v)] υ := by
            intro v hv
            rw [← hv] at ih2'
            refine x_istore_n C 2 rfl rfl rfl d_m_tellTree_170 ?_
            dsimp only [xst]
            refine x_iincN (b := 1) C rfl rfl d_m_tellTree_171 ?_
            dsimp only [xst]
            refine x_goto C d_m_tellTree_174 ?_
            refine x_take 4 ?_
            exact ih2'
          refine x_istore C rfl rfl d_m_tellTree_144 ?_
          dsimp only [xst]
          refine x_iload_n C rfl d_m_tellTree_146 ?_
          refine x_ifB_eq C d_m_tellTree_147 (fun zb => ?_) (fun zb => ?_)
          · refine x_iconst C (nI 0) rfl d_m_tellTree_169 ?_
            exact at170 false (by rw [zb]; rfl)
          · refine x_iload C rfl d_m_tellTree_150 ?_
            refine x_ifB_eq C d_m_tellTree_152 (fun zc => ?_) (fun zc => ?_)
            · refine x_iconst C (nI 1) rfl d_m_tellTree_165 ?_
              refine x_goto C d_m_tellTree_166 ?_
              exact at170 true (by rw [zb, zc]; rfl)
            · refine x_iload C rfl d_m_tellTree_155 ?_
              refine x_ifB_eq C d_m_tellTree_157 (fun zs => ?_) (fun zs => ?_)
              · refine x_iconst C (nI 0) rfl d_m_tellTree_169 ?_
                refine at170 false ?_
                rw [zs, zc, Bool.true_and] at hsm
                rw [zb, zc, ← hsm]; rfl
              · rw [zs, zc, Bool.true_and] at hsm
                refine x_iload_n C rfl d_m_tellTree_160 ?_
                refine x_iload_n C rfl d_m_tellTree_161 ?_
                refine x_icmpN_lt C (by omega) (by omega) d_m_tellTree_162 (fun z5 => ?_) (fun z5 => ?_)
                · refine x_iconst C (nI 0) rfl d_m_tellTree_169 ?_
                  refine at170 false ?_
                  rw [zb, zc, ← hsm, decide_eq_false (by omega)]; rfl
                · refine x_iconst C (nI 1) rfl d_m_tellTree_165 ?_
                  refine x_goto C d_m_tellTree_166 ?_
                  refine at170 true ?_
                  rw [zb, zc, ← hsm, decide_eq_true z5]; rfl
        refine x_istore C rfl rfl d_m_tellTree_112 ?_
        dsimp only [xst]
        refine x_iload C rfl d_m_tellTree_114 ?_
        refine x_ifB_eq C d_m_tellTree_116 (fun zc => ?_) (fun zc => ?_)
        · refine x_iconst C (nI 0) rfl d_m_tellTree_143 ?_
          exact at144 false (by rw [zc]; rfl)
        · refine x_aload_n C rfl d_m_tellTree_119 ?_
          refine x_geta C K 20 rfl (by decide) d_m_tellTree_120 ?_
          refine x_iconst C (nI 5) rfl d_m_tellTree_123 ?_
          refine x_iload_n C rfl d_m_tellTree_124 ?_
          refine x_imulN C d_m_tellTree_125 ?_
          refine x_aload_n C rfl d_m_tellTree_126 ?_
          refine x_geta C K 20 rfl (by decide) d_m_tellTree_127 ?_
          refine x_iconst C (nI 5) rfl d_m_tellTree_130 ?_
          refine x_iload_n C rfl d_m_tellTree_131 ?_
          refine x_imulN C d_m_tellTree_132 ?_
          refine x_callSi C K s_m_83 (c_m_tops (e_l E) (k0 := 20) (n0 := 5005) (k2 := 20) (n2 := 5005) (a := 5 * j) (b := 5 * k) (u := tm T j) (v := tm T k) rfl rfl rfl rfl (by omega) (by omega) (x1.2.1 j z) (x1.2.1 k z2) (oj.b (by omega)) (ok.b (by omega))) rfl rfl rfl rfl rfl rfl d_m_tellTree_133 (fun r σ' hr => ?_)
          obtain ⟨rfl, rfl⟩ := hr
          refine x_ifB_eq C d_m_tellTree_136 (fun zd => ?_) (fun zd => ?_)
          · refine x_iconst C (nI 0) rfl d_m_tellTree_143 ?_
            exact at144 false (by rw [zc, zd]; rfl)
          · refine x_iconst C (nI 1) rfl d_m_tellTree_139 ?_
            refine x_goto C d_m_tellTree_140 ?_
            exact at144 true (by rw [zc, zd]; rfl)
  · have oj := (hT.2 j z).2
    have mj := x1.2.1 j z
    refine x_iconst C (nI 0) rfl d_m_tellTree_15 ?_
    refine x_istore_n C 2 rfl rfl rfl d_m_tellTree_16 ?_
    dsimp only [xst]
    refine x_forS (fun t υ => Wx E 17 [.ref (q 0), .int (nI j), .int (nI t)] [] υ) (fun t υ => frm [22, 23, 24] σ υ ∧ υ 22 0 = lvI (lvE N T j t (lvJ N T j))) (nT N) (fun t υ ht hI2 ih2 => ?_) 0 τ (Nat.zero_le _) ⟨f1, by rw [lvE_0]; exact l1⟩
    obtain ⟨f2, l2⟩ := hI2
    have hR : RM N υ := h.fr f2 (by decide)
    have x2 : tM T υ := hX.fr f2 (by decide) (by decide) (by decide)
    have et : (nI t).toNatClampNeg = t := nI_clamp (by omega)
    refine x_iload_n C rfl d_m_tellTree_17 ?_
    refine x_aload_n C rfl d_m_tellTree_18 ?_
    refine x_getv C K 3 rfl rfl hR.2.1 d_m_tellTree_19 ?_
    refine x_icmpN_ge C (by omega) (by omega) d_m_tellTree_22 (fun z2 => ?_) (fun z2 => ?_)
    · have e : t = nT N := by omega
      subst e
      refine x_iincN (b := 1) C rfl rfl d_m_tellTree_62 ?_
      dsimp only [xst]
      refine x_goto C d_m_tellTree_65 ?_
      refine x_take 2 ?_
      exact ih υ z ⟨f2, by rw [l2]; exact lvJ_s⟩
    · have at52 : ∀ v : Int32, lvI (lvE N T j t (lvJ N T j)) ||| v = lvI (lvE N T j (t + 1) (lvJ N T j)) → Wx E 52 [.ref (q 0), .int (nI j), .int (nI t)] [.int v, .int (lvI (lvE N T j t (lvJ N T j))), .ref (q 0)] υ := by
        intro v hv
        refine x_ior C d_m_tellTree_52 ?_
        rw [hv]
        refine x_puti C K 22 rfl rfl rfl d_m_tellTree_53 ?_
        refine x_iincN (b := 1) C rfl rfl d_m_tellTree_56 ?_
        dsimp only [xst]
        refine x_goto C d_m_tellTree_59 ?_
        exact ih2 _ z2 ⟨f2.up (by decide) _, rfl⟩
      refine x_aload_n C rfl d_m_tellTree_25 ?_
      refine x_dup C rfl d_m_tellTree_26 ?_
      refine x_getv C K 22 rfl rfl l2 d_m_tellTree_27 ?_
      refine x_aload_n C rfl d_m_tellTree_30 ?_
      refine x_aload_n C rfl d_m_tellTree_31 ?_
      refine x_geta C K 20 rfl (by decide) d_m_tellTree_32 ?_
      refine x_iconst C (nI 5) rfl d_m_tellTree_35 ?_
      refine x_iload_n C rfl d_m_tellTree_36 ?_
      refine x_imulN C d_m_tellTree_37 ?_
      refine x_iload_n C rfl d_m_tellTree_38 ?_
      refine x_callVi C K s_m_116 (c_m_canFire (e_l E) (k1 := 20) (n1 := 5005) (fr := 5 * j) (mk := tm T j) hN hR rfl rfl (by omega) (x2.2.1 j z) (oj.b (by omega)) (nI t)) rfl rfl rfl rfl rfl rfl d_m_tellTree_39 (fun r σ' hr => ?_)
      obtain ⟨rfl, rfl⟩ := hr
      rw [et, ltB_nI (by omega) (by omega), decide_eq_true z2, Bool.true_and]
      refine x_ifB_eq C d_m_tellTree_42 (fun z3 => ?_) (fun z3 => ?_)
      · refine x_iconst C (nI 0) rfl d_m_tellTree_51 ?_
        exact at52 _ (by rw [or_0]; exact lvE_n z3)
      · refine x_iconst C (nI 1) rfl d_m_tellTree_45 ?_
        refine x_iload_n C rfl d_m_tellTree_46 ?_
        refine x_ishl C d_m_tellTree_47 ?_
        refine x_goto C d_m_tellTree_48 ?_
        exact at52 _ (lvE_s (by omega) z3)
/-- what grow leaves, of the model -/
def RMt (N : XNet) (T : XT) (σ : XS) : Prop := tM T σ ∧ σ 17 0 = nI 1 ∧ σ 18 0 = nI (nP N) ∧ σ 23 0 = nI (tf T (tn T)).1 ∧ (∀ k, k < (tf T (tn T)).1 → σ 24 k = nI ((tf T (tn T)).2 k)) ∧ σ 22 0 = lvI (lvB N T)
theorem c_m_grow (l : Launch) {σ : XS} {N : XNet} (hN : NOK N) (h : RM N σ) : XCi true l y_m_grow b_m_grow 5 .int 3 90 (fun q => [.ref (q 0)]) σ (fun r σ' => ∃ k, isEndT N k ∧ frm [17, 18, 19, 20, 21, 22, 23, 24, 25] σ σ' ∧ ((tn (gr N k) ≤ 1000 ∧ r = nI (tn (gr N k)) ∧ TOK (nP N) (gr N k) ∧ RMt N (gr N k) σ') ∨ (1000 < tn (gr N k) ∧ r = -1 ∧ σ' 17 0 = nI 0))) := by
  refine XCi.of (by decide) rfl (fun _ => rfl) (fun _ => rfl) (fun E q cA hEl C K R => ?_)
  subst hEl
  have h6 := hN.2.1
  have hO : (OM : Nat) = 1000000 := rfl
  refine x_aload_n C rfl d_m_grow_0 ?_
  refine x_iconst C (bI false) rfl d_m_grow_1 ?_
  refine x_putv C K 17 rfl rfl rfl (bI_nar _) (bI_fit _) d_m_grow_2 ?_
  refine x_aload_n C rfl d_m_grow_5 ?_
  refine x_iconst C (nI 1) rfl d_m_grow_6 ?_
  refine x_puti C K 19 rfl rfl rfl d_m_grow_7 ?_
  refine x_aload_n C rfl d_m_grow_10 ?_
  refine x_geta C K 21 rfl (by decide) d_m_grow_11 ?_
  refine x_iconst C (nI 0) rfl d_m_grow_14 ?_
  refine x_iconst C (-1) rfl d_m_grow_15 ?_
  refine x_iast C K (k := 21) (N := 1001) rfl rfl (by omega) d_m_grow_16 ?_
  refine x_iconst C (nI 0) rfl d_m_grow_17 ?_
  refine x_istore_n C 1 rfl rfl rfl d_m_grow_18 ?_
  dsimp only [xst]
  have f0 : frm [17, 18, 19, 20, 21, 22, 23, 24, 25] σ (va_up (va_up (va_up σ 17 (fun _ => bI false)) 19 (fun _ => nI 1)) 21 (upd (σ 21) 0 (-1))) := (((frm.rf _ σ).up (by decide) _).up (by decide) _).up (by decide) _
  generalize hs0 : va_up (va_up (va_up σ 17 (fun _ => bI false)) 19 (fun _ => nI 1)) 21 (upd (va_up (va_up σ 17 (fun _ => bI false)) 19 (fun _ => nI 1) 21) 0 (-1)) = σ0
  have f0 : frm [17, 18, 19, 20, 21, 22, 23, 24, 25] σ σ0 := by rw [← hs0]; exact f0
  have a17 : σ0 17 0 = nI 0 := by rw [← hs0]; rfl
  have a19 : σ0 19 0 = nI 1 := by rw [← hs0]; rfl
  have a21 : σ0 21 0 = -1 := by rw [← hs0]; rfl
  have h0 : RM N σ0 := h.fr f0 (by decide)
  have key := x_forS (fun p f => Wx E 19 [.ref (q 0), .int (nI p)] [] (va_up σ0 20 f)) (fun p f => ∀ p', p' < p → f p' = nI (nfi N p')) 5 (fun p f hp hI ih => ?_) 0 (σ0 20) (Nat.zero_le _) (fun p hp => absurd hp (by omega))
  · rw [xueq] at key
    exact key
  · refine x_iload_n C rfl d_m_grow_19 ?_
    refine x_iconst C (nI 5) rfl d_m_grow_20 ?_
    refine x_icmpN_ge C (by omega) (by omega) d_m_grow_21 (fun z => ?_) (fun z => ?_)
    · refine x_iconst C (nI 0) rfl d_m_grow_42 ?_
      refine x_istore_n C 1 rfl rfl rfl d_m_grow_43 ?_
      dsimp only [xst]
      refine x_forS (fun k τ => Wx E 44 [.ref (q 0), .int (nI k)] [] τ) (fun k τ => frm [17, 18, 19, 20, 21, 22, 23, 24, 25] σ τ ∧ τ 17 0 = nI 0 ∧ (∀ j, j < k → j < tn (gr N j) ∧ tn (gr N j) ≤ 1000) ∧ tM (gr N k) τ) 1001 (fun k τ hk hI2 ih2 => ?_) 0 (va_up σ0 20 f) (by omega) ⟨f0.up (by decide) f, a17, fun j hj => absurd hj (by omega), a19, fun j hj => ?_, fun j hj => ?_⟩
      · obtain ⟨f1, b17, i2, x1⟩ := hI2
        have hR : RM N τ := h.fr f1 (by decide)
        have hT := grT_ok hN k (fun i hi => (i2 i hi).1)
        have hn := hT.1
        -- behind the loop
        have out : isEndT N k → Wx E 241 [.ref (q 0), .int (nI k)] [] τ := by
          intro hend
          refine x_aload_n C rfl d_m_grow_241 ?_
          refine x_getv C K 19 rfl rfl x1.1 d_m_grow_242 ?_
          refine x_sipush C (nI 1000) (by decide) d_m_grow_245 ?_
          refine x_icmpN_le C (by omega) (by omega) d_m_grow_248 (fun z3 => ?_) (fun z3 => ?_)
          · refine x_aload_n C rfl d_m_grow_253 ?_
            refine x_iconst C (bI true) rfl d_m_grow_254 ?_
            refine x_putv C K 17 rfl rfl rfl (bI_nar _) (bI_fit _) d_m_grow_255 ?_
            refine x_aload_n C rfl d_m_grow_258 ?_
            refine x_aload_n C rfl d_m_grow_259 ?_
            refine x_getv C K 0 rfl rfl hR.1 d_m_grow_260 ?_
            refine x_puti C K 18 rfl rfl rfl d_m_grow_263 ?_
            refine x_aload_n C rfl d_m_grow_266 ?_
            have f2 : frm [17, 18, 19, 20, 21, 22, 23, 24, 25] σ (va_up (va_up τ 17 (fun _ => bI true)) 18 (fun _ => nI (nP N))) := (f1.up (by decide) _).up (by decide) _
            refine x_callVv C K s_m_141 (c_m_tellTree (e_l E) hN (h.fr f2 (by decide)) hT x1 z3) rfl rfl rfl rfl rfl rfl d_m_grow_267 (fun σ3 hs => ?_)
            obtain ⟨u1, u2, u3, u4⟩ := hs
            have x3 : tM (gr N k) σ3 := tM.fr (σ := va_up (va_up τ 17 (fun _ => bI true)) 18 (fun _ => nI (nP N))) x1 u1 (by decide) (by decide) (by decide)
            refine x_aload_n C rfl d_m_grow_270 ?_
            refine x_getv C K 19 rfl rfl x3.1 d_m_grow_271 ?_
            refine R rfl ⟨k, hend, f2.tr u1 (by decide), Or.inl ⟨z3, rfl, hT, x3, ?_, ?_, u3, u4, u2⟩⟩ d_m_grow_274
            · rw [u1 17 (by decide)]; rfl
            · rw [u1 18 (by decide)]; rfl
          · refine x_iconst C (-1) rfl d_m_grow_251 ?_
            exact R rfl ⟨k, hend, f1, Or.inr ⟨z3, rfl, b17⟩⟩ d_m_grow_252
        refine x_iload_n C rfl d_m_grow_44 ?_
        refine x_aload_n C rfl d_m_grow_45 ?_
        refine x_getv C K 19 rfl rfl x1.1 d_m_grow_46 ?_
        refine x_icmpN_ge C (by omega) (by omega) d_m_grow_49 (fun z2 => out ⟨Or.inl z2, i2⟩) (fun z2 => ?_)
        refine x_aload_n C rfl d_m_grow_52 ?_
        refine x_getv C K 19 rfl rfl x1.1 d_m_grow_53 ?_
        refine x_sipush C (nI 1000) (by decide) d_m_grow_56 ?_
        refine x_icmpN_gt C (by omega) (by omega) d_m_grow_59 (fun z3 => out ⟨Or.inr z3, i2⟩) (fun z3 => ?_)
        have i2' : ∀ j, j < k + 1 → j < tn (gr N j) ∧ tn (gr N j) ≤ 1000 := fun j hj => by
          by_cases e : j = k
          · rw [e]; exact ⟨z2, z3⟩
          · exact i2 j (by omega)
        have eG : gr N (k + 1) = if agn (gr N k) k then gr N k else exK N k (nT N) (gr N k) := rfl
        refine x_iconst C (nI 0) rfl d_m_grow_62 ?_
        refine x_istore_n C 2 rfl rfl rfl d_m_grow_63 ?_
        dsimp only [xst]
        cases hag : agn (gr N k) k with
        | true =>
          rw [eG, if_pos hag] at ih2
          have fin : Wx E 235 [.ref (q 0), .int (nI k), .int (nI 0)] [] τ := by
            refine x_iincN (b := 1) C rfl rfl d_m_grow_235 ?_
            dsimp only [xst]
            refine x_goto C d_m_grow_238 ?_
            refine x_take 2 ?_
            exact ih2 τ (by omega) ⟨f1, b17, i2', x1⟩
          refine x_iload_n C rfl d_m_grow_64 ?_
          refine x_aload_n C rfl d_m_grow_65 ?_
          refine x_getv C K 3 rfl rfl hR.2.1 d_m_grow_66 ?_
          refine x_icmpN_ge C (by omega) (by omega) d_m_grow_69 (fun _ => fin) (fun _ => ?_)
          refine x_aload_n C rfl d_m_grow_72 ?_
          refine x_iload_n C rfl d_m_grow_73 ?_
          refine x_callVi C K s_m_131 (c_m_isOld (e_l E) (P := nP N) (j := k) hT x1 z2) rfl rfl rfl rfl rfl rfl d_m_grow_74 (fun r σ' hr => ?_)
          obtain ⟨rfl, rfl⟩ := hr
          exact x_ifB_ne C d_m_grow_77 (fun _ => fin) (fun hh => by rw [hag] at hh; cases hh)
        | false =>
          rw [eG, if_neg (by rw [hag]; decide)] at ih2
          generalize hG : gr N k = G at *
          refine x_forS (fun t υ => Wx E 64 [.ref (q 0), .int (nI k), .int (nI t)] [] υ) (fun t υ => frm [17, 18, 19, 20, 21, 22, 23, 24, 25] σ υ ∧ υ 17 0 = nI 0 ∧ tM (exK N k t G) υ) (nT N) (fun t υ ht hI3 ih3 => ?_) 0 τ (Nat.zero_le _) ⟨f1, b17, x1⟩
          obtain ⟨f2, c17, x2⟩ := hI3
          have hR2 : RM N υ := h.fr f2 (by decide)
          obtain ⟨o1, o2⟩ := exK_ok hN hT z2 t
          obtain ⟨m1, -, m3⟩ := exK_old hN hT z2 z2 t
          have nU := o1.1
          have fin : exK N k (nT N) G = exK N k t G → Wx E 235 [.ref (q 0), .int (nI k), .int (nI t)] [] υ := by
            intro he
            rw [he] at ih2
            refine x_iincN (b := 1) C rfl rfl d_m_grow_235 ?_
            dsimp only [xst]
            refine x_goto C d_m_grow_238 ?_
            refine x_take 2 ?_
            exact ih2 υ (by omega) ⟨f2, c17, i2', x2⟩
          refine x_iload_n C rfl d_m_grow_64 ?_
          refine x_aload_n C rfl d_m_grow_65 ?_
          refine x_getv C K 3 rfl rfl hR2.2.1 d_m_grow_66 ?_
          refine x_icmpN_ge C (by omega) (by omega) d_m_grow_69 (fun z4 => fin (by rw [show t = nT N by omega])) (fun z4 => ?_)
          have eS : exK N k (t + 1) G = eT N k t (exK N k t G) := rfl
          have hst := exK_big (N := N) (T := G) (j := k) (t := t)
          rw [eS] at ih3
          generalize hU : exK N k t G = U at *
          have hkU : k < tn U := by omega
          have ok := (o1.2 k hkU).2
          refine x_aload_n C rfl d_m_grow_72 ?_
          refine x_iload_n C rfl d_m_grow_73 ?_
          refine x_callVi C K s_m_131 (c_m_isOld (e_l E) (P := nP N) (j := k) o1 x2 hkU) rfl rfl rfl rfl rfl rfl d_m_grow_74 (fun r σ' hr => ?_)
          obtain ⟨rfl, rfl⟩ := hr
          refine x_ifB_ne C d_m_grow_77 (fun hh => by rw [m3, hag] at hh; cases hh) (fun _ => ?_)
          refine x_aload_n C rfl d_m_grow_80 ?_
          refine x_getv C K 19 rfl rfl x2.1 d_m_grow_81 ?_
          refine x_sipush C (nI 1000) (by decide) d_m_grow_84 ?_
          refine x_icmpN_gt C (by omega) (by omega) d_m_grow_87 (fun z5 => fin ?_) (fun z5 => ?_)
          · have := hst z5 (nT N - t)
            rw [show t + (nT N - t) = nT N by omega] at this
            exact this
          have et : (nI t).toNatClampNeg = t := nI_clamp (by omega)
          have mk2 := x2.2.1 k hkU
          refine x_aload_n C rfl d_m_grow_90 ?_
          refine x_aload_n C rfl d_m_grow_91 ?_
          refine x_geta C K 20 rfl (by decide) d_m_grow_92 ?_
          refine x_iconst C (nI 5) rfl d_m_grow_95 ?_
          refine x_iload_n C rfl d_m_grow_96 ?_
          refine x_imulN C d_m_grow_97 ?_
          refine x_iload_n C rfl d_m_grow_98 ?_
          refine x_callVi C K s_m_116 (c_m_canFire (e_l E) (k1 := 20) (n1 := 5005) (fr := 5 * k) (mk := tm U k) hN hR2 rfl rfl (by omega) mk2 (ok.b (by omega)) (nI t)) rfl rfl rfl rfl rfl rfl d_m_grow_99 (fun r σ' hr => ?_)
          obtain ⟨rfl, rfl⟩ := hr
          rw [et, ltB_nI (by omega) (by omega), decide_eq_true z4, Bool.true_and]
          refine x_ifB_eq C d_m_grow_102 (fun zf => ?_) (fun zf => ?_)
          · have eU : eT N k t U = U := by rw [eT, if_neg]; simp [canE, zf]
            rw [eU] at ih3
            refine x_iincN (b := 1) C rfl rfl d_m_grow_229 ?_
            dsimp only [xst]
            refine x_goto C d_m_grow_232 ?_
            exact ih3 υ z4 ⟨f2, c17, x2⟩
          · have ce : canE N U k t = true := by simp [canE, zf, z5]
            have eU : eT N k t U = tAdd U (newM N U k t) k := by rw [eT, if_pos ce]
            have hlt := leM_iff.mp zf
            rw [eU] at ih3
            refine x_iconst C (nI 0) rfl d_m_grow_105 ?_
            refine x_istore_n C 3 rfl rfl rfl d_m_grow_106 ?_
            dsimp only [xst]
            have key := x_forS (fun i f => Wx E 107 [.ref (q 0), .int (nI k), .int (nI t), .int (nI i)] [] (va_up υ 25 f)) (fun i f => ∀ p, p < i → f p = nI (fireO N t (tm U k) p)) 5 (fun i f hi hI4 ih4 => ?_) 0 (υ 25) (Nat.zero_le _) (fun p hp => absurd hp (by omega))
            · rw [xueq] at key
              exact key
            · refine x_iload_n C rfl d_m_grow_107 ?_
              refine x_iconst C (nI 5) rfl d_m_grow_108 ?_
              refine x_icmpN_ge C (by omega) (by omega) d_m_grow_109 (fun z6 => ?_) (fun z6 => ?_)
              · have ofi := ok.fire hN (t := t)
                refine x_aload_n C rfl d_m_grow_172 ?_
                refine x_iload_n C rfl d_m_grow_173 ?_
                refine x_callVv C K s_m_134 (c_m_accelerate (e_l E) (P := nP N) (T := U) (j := k) (w := fireO N t (tm U k)) hN.1 o1 x2 hkU (fun p hp => hI4 p (by omega)) (ofi.le (by omega)) ofi.2) rfl rfl rfl rfl rfl rfl d_m_grow_174 (fun σ' hs => ?_)
                obtain ⟨f', rfl, hf'⟩ := hs
                rw [xuu]
                have hf2 : mk0 f' (newM N U k t) := hf'
                refine x_iconst C (nI 0) rfl d_m_grow_177 ?_
                refine x_istore_n C 3 rfl rfl rfl d_m_grow_178 ?_
                dsimp only [xst]
                have key5 := x_forS (fun p g => Wx E 179 [.ref (q 0), .int (nI k), .int (nI t), .int (nI p)] [] (va_up (va_up υ 25 f') 20 g)) (fun p g => (∀ i, i < 5 * tn U → g i = υ 20 i) ∧ ∀ p', p' < p → g (5 * tn U + p') = nI (newM N U k t p')) 5 (fun p g hp hI5 ih5 => ?_) 0 (υ 20) (Nat.zero_le _) ⟨fun _ _ => rfl, fun p hp => absurd hp (by omega)⟩
                · rw [show va_up (va_up υ 25 f') 20 (υ 20) = va_up υ 25 f' from xueq (va_up υ 25 f') 20] at key5
                  refine x_take 4 ?_
                  exact key5
                · refine x_iload_n C rfl d_m_grow_179 ?_
                  refine x_iconst C (nI 5) rfl d_m_grow_180 ?_
                  refine x_icmpN_ge C (by omega) (by omega) d_m_grow_181 (fun z7 => ?_) (fun z7 => ?_)
                  · refine x_aload_n C rfl d_m_grow_209 ?_
                    refine x_geta C K 21 rfl (by decide) d_m_grow_210 ?_
                    refine x_aload_n C rfl d_m_grow_213 ?_
                    refine x_getv C K 19 rfl rfl x2.1 d_m_grow_214 ?_
                    refine x_iload_n C rfl d_m_grow_217 ?_
                    refine x_iast C K (k := 21) (N := 1001) rfl rfl (by omega) d_m_grow_218 ?_
                    refine x_aload_n C rfl d_m_grow_219 ?_
                    refine x_dup C rfl d_m_grow_220 ?_
                    refine x_getv C K 19 rfl rfl x2.1 d_m_grow_221 ?_
                    refine x_iconst C (nI 1) rfl d_m_grow_224 ?_
                    refine x_iaddN C d_m_grow_225 ?_
                    refine x_puti C K 19 rfl rfl rfl d_m_grow_226 ?_
                    refine x_iincN (b := 1) C rfl rfl d_m_grow_229 ?_
                    dsimp only [xst]
                    refine x_goto C d_m_grow_232 ?_
                    refine x_take 3 ?_
                    refine ih3 _ z4 ⟨(((f2.up (by decide) f').up (by decide) g).up (by decide) _).up (by decide) _, c17, rfl, fun i hi => ?_, fun i hi => ?_⟩
                    · have hi' : i < tn U + 1 := hi
                      show mkAt g (5 * i) _
                      by_cases e : i = tn U
                      · subst e
                        rw [show tm (tAdd U (newM N U k t) k) (tn U) = newM N U k t from if_pos rfl]
                        exact fun p' hp' => hI5.2 p' (by omega)
                      · rw [tm_add (by omega)]
                        intro p' hp'
                        rw [hI5.1 _ (by omega)]
                        exact x2.2.1 i (by omega) p' hp'
                    · have hi' : i < tn U + 1 := hi
                      show upd (υ 21) (tn U) (nI k) i = _
                      by_cases e : i = tn U
                      · subst e
                        rw [upd_s, show ta (tAdd U (newM N U k t) k) (tn U) = some k from if_pos rfl]
                        rfl
                      · rw [upd_n _ _ e, ta_add (by omega)]
                        exact x2.2.2 i (by omega)
                  · refine x_aload_n C rfl d_m_grow_184 ?_
                    refine x_geta C K 20 rfl (by decide) d_m_grow_185 ?_
                    refine x_iconst C (nI 5) rfl d_m_grow_188 ?_
                    refine x_aload_n C rfl d_m_grow_189 ?_
                    refine x_getv C K 19 rfl rfl x2.1 d_m_grow_190 ?_
                    refine x_imulN C d_m_grow_193 ?_
                    refine x_iload_n C rfl d_m_grow_194 ?_
                    refine x_iaddN C d_m_grow_195 ?_
                    refine x_aload_n C rfl d_m_grow_196 ?_
                    refine x_geta C K 25 rfl (by decide) d_m_grow_197 ?_
                    refine x_iload_n C rfl d_m_grow_200 ?_
                    refine x_iald C K (k := 25) (N := 5) rfl rfl (by omega) (hf2 p (by omega)) d_m_grow_201 ?_
                    refine x_iast C K (k := 20) (N := 5005) rfl rfl (by omega) d_m_grow_202 ?_
                    refine x_iincN (b := 1) C rfl rfl d_m_grow_203 ?_
                    dsimp only [xst]
                    refine x_goto C d_m_grow_206 ?_
                    rw [xuu, xus]
                    refine ih5 _ z7 ⟨fun i hi => ?_, fun p' hp' => ?_⟩
                    · rw [upd_n _ _ (by omega)]; exact hI5.1 i hi
                    · by_cases e : p' = p
                      · rw [e, upd_s]
                      · rw [upd_n _ _ (by omega)]; exact hI5.2 p' (by omega)
              · have bm := ok.le (by omega) i
                have bg := hN.2.2.2.2.2.1 t i
                have cont : Wx E 165 [.ref (q 0), .int (nI k), .int (nI t), .int (nI i), .int (nI (tm U k i))] [.int (nI (fireO N t (tm U k) i)), .int (nI i), .ref (q 25)] (va_up υ 25 f) := by
                  refine x_iast C K (k := 25) (N := 5) rfl rfl (by omega) d_m_grow_165 ?_
                  refine x_iincN (b := 1) C rfl rfl d_m_grow_166 ?_
                  dsimp only [xst]
                  refine x_goto C d_m_grow_169 ?_
                  rw [xuu, xus]
                  refine x_take 4 ?_
                  refine ih4 _ z6 (fun p hp => ?_)
                  by_cases e : p = i
                  · rw [e, upd_s]
                  · rw [upd_n _ _ e]; exact hI4 p (by omega)
                refine x_aload_n C rfl d_m_grow_112 ?_
                refine x_geta C K 20 rfl (by decide) d_m_grow_113 ?_
                refine x_iconst C (nI 5) rfl d_m_grow_116 ?_
                refine x_iload_n C rfl d_m_grow_117 ?_
                refine x_imulN C d_m_grow_118 ?_
                refine x_iload_n C rfl d_m_grow_119 ?_
                refine x_iaddN C d_m_grow_120 ?_
                refine x_iald C K (k := 20) (N := 5005) rfl rfl (by omega) (mk2 i (by omega)) d_m_grow_121 ?_
                refine x_istore C rfl rfl d_m_grow_122 ?_
                dsimp only [xst]
                refine x_aload_n C rfl d_m_grow_124 ?_
                refine x_geta C K 25 rfl (by decide) d_m_grow_125 ?_
                refine x_iload_n C rfl d_m_grow_128 ?_
                refine x_iload C rfl d_m_grow_129 ?_
                refine x_ldc C (nI 1000000) tb_cm123 rfl d_m_grow_131 ?_
                refine x_icmpN_ne C (by omega) (by omega) d_m_grow_133 (fun z7 => ?_) (fun z7 => ?_)
                · rw [show fireO N t (tm U k) i = tm U k i + ngv N t i - ntk N t i from if_neg z7] at cont
                  have hh := hlt i (by omega)
                  refine x_iload C rfl d_m_grow_141 ?_
                  refine x_aload_n C rfl d_m_grow_143 ?_
                  refine x_geta C K 5 rfl (by decide) d_m_grow_144 ?_
                  refine x_iconst C (nI 5) rfl d_m_grow_147 ?_
                  refine x_iload_n C rfl d_m_grow_148 ?_
                  refine x_imulN C d_m_grow_149 ?_
                  refine x_iload_n C rfl d_m_grow_150 ?_
                  refine x_iaddN C d_m_grow_151 ?_
                  refine x_iald C K (k := 5) (N := 30) rfl rfl (by omega) (hR2.2.2.2.2.2 t i (by omega) (by omega)) d_m_grow_152 ?_
                  refine x_iaddN C d_m_grow_153 ?_
                  refine x_aload_n C rfl d_m_grow_154 ?_
                  refine x_geta C K 4 rfl (by decide) d_m_grow_155 ?_
                  refine x_iconst C (nI 5) rfl d_m_grow_158 ?_
                  refine x_iload_n C rfl d_m_grow_159 ?_
                  refine x_imulN C d_m_grow_160 ?_
                  refine x_iload_n C rfl d_m_grow_161 ?_
                  refine x_iaddN C d_m_grow_162 ?_
                  refine x_iald C K (k := 4) (N := 30) rfl rfl (by omega) (hR2.2.2.2.2.1 t i (by omega) (by omega)) d_m_grow_163 ?_
                  refine x_isubN C (by omega) d_m_grow_164 ?_
                  exact cont
                · rw [show fireO N t (tm U k) i = OM from if_pos z7] at cont
                  refine x_ldc C (nI 1000000) tb_cm123 rfl d_m_grow_136 ?_
                  refine x_goto C d_m_grow_138 ?_
                  exact cont
      · have hj' : j < 1 := hj
        have : j = 0 := by omega
        subst this
        intro p' hp'
        show f (5 * 0 + p') = _
        rw [show 5 * 0 + p' = p' by omega]
        exact hI p' (by omega)
      · have hj' : j < 1 := hj
        have : j = 0 := by omega
        subst this
        exact a21
    · refine x_aload_n C rfl d_m_grow_24 ?_
      refine x_geta C K 20 rfl (by decide) d_m_grow_25 ?_
      refine x_iload_n C rfl d_m_grow_28 ?_
      refine x_aload_n C rfl d_m_grow_29 ?_
      refine x_geta C K 1 rfl (by decide) d_m_grow_30 ?_
      refine x_iload_n C rfl d_m_grow_33 ?_
      refine x_iald C K (k := 1) (N := 5) rfl rfl (by omega) (h0.2.2.1 p (by omega)) d_m_grow_34 ?_
      refine x_iast C K (k := 20) (N := 5005) rfl rfl (by omega) d_m_grow_35 ?_
      refine x_iincN (b := 1) C rfl rfl d_m_grow_36 ?_
      dsimp only [xst]
      refine x_goto C d_m_grow_39 ?_
      rw [xuu, xus]
      refine ih _ z (fun p' hp' => ?_)
      by_cases e : p' = p
      · rw [e, upd_s]
      · rw [upd_n _ _ e]; exact hI p' (by omega)
end
section
/-! what is asked of the tree -/
abbrev XTT : Type := Option (XNet × XT)
def okQ (N : XNet) (T : XT) : Prop := NOK N ∧ TOK (nP N) T ∧ tn T ≤ 1000
def RXu (t : XTT) (σ : XS) : Prop := match t with
  | none => σ 20 0 = -1
  | some (N, T) => okQ N T ∧ RXt N T σ
def RMu (t : XTT) (σ : XS) : Prop := match t with
  | none => σ 17 0 = nI 0
  | some (N, T) => okQ N T ∧ RMt N T σ
theorem RXu.fr {t : XTT} {S : List Nat} {σ τ : XS} (h : RXu t σ) (hf : frm S σ τ) (hs : (S.all (fun k => !([16, 17, 18, 19, 20, 21, 22, 23].contains k))) = true) : RXu t τ := by
  have n : ∀ k, [16, 17, 18, 19, 20, 21, 22, 23].contains k = true → τ k = σ k := fun k hk => hf k (fun e => by
    have := List.all_eq_true.mp hs k e
    rw [hk] at this
    cases this)
  match t, h with
  | none, h => exact (show τ 20 0 = -1 by rw [n 20 (by decide)]; exact h)
  | some (N, T), h =>
    obtain ⟨h0, ⟨a1, a2, a3⟩, h2, h3, h4, h5, h6⟩ := h
    exact ⟨h0, ⟨by rw [n 18 (by decide)]; exact a1, by rw [n 16 (by decide)]; exact a2, by rw [n 17 (by decide)]; exact a3⟩, by rw [n 19 (by decide)]; exact h2, by rw [n 20 (by decide)]; exact h3, by rw [n 22 (by decide)]; exact h4, by rw [n 21 (by decide)]; exact h5, by rw [n 23 (by decide)]; exact h6⟩
theorem RMu.fr {t : XTT} {S : List Nat} {σ τ : XS} (h : RMu t σ) (hf : frm S σ τ) (hs : (S.all (fun k => !([17, 18, 19, 20, 21, 22, 23, 24].contains k))) = true) : RMu t τ := by
  have n : ∀ k, [17, 18, 19, 20, 21, 22, 23, 24].contains k = true → τ k = σ k := fun k hk => hf k (fun e => by
    have := List.all_eq_true.mp hs k e
    rw [hk] at this
    cases this)
  match t, h with
  | none, h => exact (show τ 17 0 = nI 0 by rw [n 17 (by decide)]; exact h)
  | some (N, T), h =>
    obtain ⟨h0, ⟨a1, a2, a3⟩, h2, h3, h4, h5, h6⟩ := h
    exact ⟨h0, ⟨by rw [n 19 (by decide)]; exact a1, by rw [n 20 (by decide)]; exact a2, by rw [n 21 (by decide)]; exact a3⟩, by rw [n 17 (by decide)]; exact h2, by rw [n 18 (by decide)]; exact h3, by rw [n 23 (by decide)]; exact h4, by rw [n 24 (by decide)]; exact h5, by rw [n 22 (by decide)]; exact h6⟩
def toR (v : Nat) : Int32 := if v = OM then -2 else nI v
def moR (t : XTT) (v : Int32) : Int32 := match t with
  | none => -1
  | some (N, T) => if ltB v (nP N) = true then toR (mx T v.toNatClampNeg (tn T)) else -1
def liR (t : XTT) (v : Int32) : Bool := match t with
  | none => false
  | some (N, T) => ltB v (nT N) && lvB N T v.toNatClampNeg
def lmR (t : XTT) : Int32 := match t with
  | none => -1
  | some (_, T) => nI (tf T (tn T)).1
def ltR (t : XTT) (a b : Int32) : Int32 := match t with
  | none => -1
  | some (N, T) => if (ltB a (tf T (tn T)).1 && ltB b (nP N)) = true then toR (tm T ((tf T (tn T)).2 a.toNatClampNeg) b.toNatClampNeg) else -1
def cvR (t : XTT) (M : XNet) : Bool := match t with
  | none => false
  | some (N, T) => decide (nP N = nP M) && xany (tn T) (fun j => leM (ngo M) (tm T j))
theorem mx_le {T : XT} {p : Nat} : ∀ k, (∀ j, j < k → tm T j p ≤ OM) → mx T p k ≤ OM
  | 0, _ => Nat.zero_le _
  | k + 1, h => by
    have h1 := mx_le (T := T) (p := p) k (fun j hj => h j (by omega))
    have h2 := h k (by omega)
    show max (mx T p k) (tm T k p) ≤ OM
    exact Nat.max_le.mpr ⟨h1, h2⟩
theorem bI_1 {b : Bool} : bI b = nI 1 ↔ b = true := by cases b <;> decide
theorem c_x_isTree (l : Launch) {σ : XS} {t : XTT} (h : RXu t σ) : XCi false l y_x_isTree b_x_isTree 1 .boolean 0 0 (fun q => [.ref (q 0)]) σ (fun r σ' => r = bI t.isSome ∧ σ = σ') := by
  refine XCi.of (by decide) rfl (fun _ => rfl) (fun _ => rfl) (fun E q cA hEl C K R => ?_)
  match t, h with
  | none, h =>
    refine x_aload_n C rfl d_x_isTree_0 ?_
    refine x_getv C K 20 rfl rfl h d_x_isTree_1 ?_
    refine x_iconst C (-1) rfl d_x_isTree_4 ?_
    refine x_icmp_eq C d_x_isTree_5 (fun _ => ?_) (fun z => absurd rfl z)
    refine x_iconst C (nI 0) rfl d_x_isTree_12 ?_
    exact R (bI_nar false) ⟨rfl, rfl⟩ d_x_isTree_13
  | some (N, T), h =>
    have h6 := h.1.1.2.1
    refine x_aload_n C rfl d_x_isTree_0 ?_
    refine x_getv C K 20 rfl rfl h.2.2.2.1 d_x_isTree_1 ?_
    refine x_iconst C (-1) rfl d_x_isTree_4 ?_
    refine x_icmp_eq C d_x_isTree_5 (fun z => absurd z (m1_ne (by omega))) (fun _ => ?_)
    refine x_iconst C (nI 1) rfl d_x_isTree_8 ?_
    refine x_goto C d_x_isTree_9 ?_
    exact R (bI_nar true) ⟨rfl, rfl⟩ d_x_isTree_13
theorem c_x_told (l : Launch) {σ : XS} {v : Nat} (hv : v ≤ OM) : XCi false l y_x_told b_x_told 1 .int 0 0 (fun _ => [.int (nI v)]) σ (fun r σ' => r = toR v ∧ σ = σ') := by
  refine XCi.of (by decide) rfl (fun _ => rfl) (fun _ => rfl) (fun E q cA hEl C K R => ?_)
  have hO : (OM : Nat) = 1000000 := rfl
  refine x_iload_n C rfl d_x_told_0 ?_
  refine x_ldc C (nI 1000000) tb_cx148 rfl d_x_told_1 ?_
  refine x_icmpN_ne C (by omega) (by omega) d_x_told_3 (fun z => ?_) (fun z => ?_)
  · refine x_iload_n C rfl d_x_told_11 ?_
    exact R rfl ⟨by rw [toR, if_neg z], rfl⟩ d_x_told_12
  · refine x_bipush C (-2) (by decide) d_x_told_6 ?_
    refine x_goto C d_x_told_8 ?_
    exact R rfl ⟨by rw [toR, if_pos z], rfl⟩ d_x_told_12
theorem c_m_told (l : Launch) {σ : XS} {v : Nat} (hv : v ≤ OM) : XCi true l y_m_told b_m_told 1 .int 0 0 (fun _ => [.int (nI v)]) σ (fun r σ' => r = toR v ∧ σ = σ') := by
  refine XCi.of (by decide) rfl (fun _ => rfl) (fun _ => rfl) (fun E q cA hEl C K R => ?_)
  have hO : (OM : Nat) = 1000000 := rfl
  refine x_iload_n C rfl d_m_told_0 ?_
  refine x_ldc C (nI 1000000) tb_cm123 rfl d_m_told_1 ?_
  refine x_icmpN_ne C (by omega) (by omega) d_m_told_3 (fun z => ?_) (fun z => ?_)
  · refine x_iload_n C rfl d_m_told_11 ?_
    exact R rfl ⟨by rw [toR, if_neg z], rfl⟩ d_m_told_12
  · refine x_bipush C (-2) (by decide) d_m_told_6 ?_
    refine x_goto C d_m_told_8 ?_
    exact R rfl ⟨by rw [toR, if_pos z], rfl⟩ d_m_told_12
theorem c_x_most (l : Launch) {σ : XS} {t : XTT} (h : RXu t σ) (v : Int32) : XCi false l y_x_most b_x_most 4 .int 1 40 (fun q => [.ref (q 0), .int v]) σ (fun r σ' => r = moR t v ∧ σ = σ') := by
  refine XCi.of (by decide) rfl (fun _ => rfl) (fun _ => rfl) (fun E q cA hEl C K R => ?_)
  subst hEl
  have hO : (OM : Nat) = 1000000 := rfl
  have fail : moR t v = -1 → Wx E 19 [.ref (q 0), .int v] [] σ := by
    intro hf
    refine x_iconst C (-1) rfl d_x_most_19 ?_
    exact R rfl ⟨hf.symm, rfl⟩ d_x_most_20
  refine x_aload_n C rfl d_x_most_0 ?_
  refine x_callVi C K s_x_179 (c_x_isTree (e_l E) h) rfl rfl rfl rfl rfl rfl d_x_most_1 (fun r σ' hr => ?_)
  obtain ⟨rfl, rfl⟩ := hr
  match t, h with
  | none, h => exact x_ifB_eq C d_x_most_4 (fun _ => fail rfl) (fun hh => by cases hh)
  | some (N, T), h =>
    obtain ⟨⟨hN, hT, hn⟩, hX, h19, h20, -⟩ := h
    have h5 := hN.1
    refine x_ifB_eq C d_x_most_4 (fun hh => by cases hh) (fun _ => ?_)
    refine x_iload_n C rfl d_x_most_7 ?_
    refine x_if_lt C d_x_most_8 (fun z => fail ?_) (fun z => ?_)
    · rw [moR, if_neg (fun hh => by simp [ltB, z] at hh)]
    · refine x_iload_n C rfl d_x_most_11 ?_
      refine x_aload_n C rfl d_x_most_12 ?_
      refine x_getv C K 19 rfl rfl h19 d_x_most_13 ?_
      refine x_icmp_lt C d_x_most_16 (fun z2 => ?_) (fun z2 => fail ?_)
      · have hlt := ltB_of z z2
        obtain ⟨p, hp, rfl⟩ := (ltB_iff (by omega)).mp hlt
        have bm : ∀ j, j < tn T → tm T j p ≤ OM := fun j hj => (hT.2 j hj).2.le (by omega) p
        refine x_iconst C (nI 0) rfl d_x_most_21 ?_
        refine x_istore_n C 2 rfl rfl rfl d_x_most_22 ?_
        dsimp only [xst]
        refine x_iconst C (nI 0) rfl d_x_most_23 ?_
        refine x_istore_n C 3 rfl rfl rfl d_x_most_24 ?_
        dsimp only [xst]
        refine x_for (fun k => Wx E 25 [.ref (q 0), .int (nI p), .int (nI (mx T p k)), .int (nI k)] [] σ) (tn T) (fun k hk ih => ?_) 0 (Nat.zero_le _)
        have b1 := mx_le (T := T) (p := p) k (fun j hj => bm j (by omega))
        refine x_iload_n C rfl d_x_most_25 ?_
        refine x_aload_n C rfl d_x_most_26 ?_
        refine x_getv C K 18 rfl rfl hX.1 d_x_most_27 ?_
        refine x_icmpN_ge C (by omega) (by omega) d_x_most_30 (fun z3 => ?_) (fun z3 => ?_)
        · have e : k = tn T := by omega
          subst e
          refine x_iload_n C rfl d_x_most_54 ?_
          refine x_callSi C K s_x_182 (c_x_told (e_l E) b1) rfl rfl rfl rfl rfl rfl d_x_most_55 (fun r σ' hr => ?_)
          obtain ⟨rfl, rfl⟩ := hr
          exact R rfl ⟨by rw [moR, if_pos hlt, nI_clamp (by omega)], rfl⟩ d_x_most_58
        · have b2 := bm k z3
          refine x_iload_n C rfl d_x_most_33 ?_
          refine x_aload_n C rfl d_x_most_34 ?_
          refine x_geta C K 16 rfl (by decide) d_x_most_35 ?_
          refine x_iconst C (nI 5) rfl d_x_most_38 ?_
          refine x_iload_n C rfl d_x_most_39 ?_
          refine x_imulN C d_x_most_40 ?_
          refine x_iload_n C rfl d_x_most_41 ?_
          refine x_iaddN C d_x_most_42 ?_
          refine x_iald C K (k := 16) (N := 5000) rfl rfl (by omega) (hX.2.1 k z3 p (by omega)) d_x_most_43 ?_
          refine x_maxN C (by omega) (by omega) (by omega) (by omega) (by decide) d_x_most_44 ?_
          refine x_istore_n C 2 rfl rfl rfl d_x_most_47 ?_
          dsimp only [xst]
          refine x_iincN (b := 1) C rfl rfl d_x_most_48 ?_
          dsimp only [xst]
          refine x_goto C d_x_most_51 ?_
          exact ih z3
      · rw [moR, if_neg (fun hh => by simp [ltB, z2] at hh)]
theorem c_x_live (l : Launch) {σ : XS} {t : XTT} (h : RXu t σ) (v : Int32) : XCi false l y_x_live b_x_live 2 .boolean 1 40 (fun q => [.ref (q 0), .int v]) σ (fun r σ' => r = bI (liR t v) ∧ σ = σ') := by
  refine XCi.of (by decide) rfl (fun _ => rfl) (fun _ => rfl) (fun E q cA hEl C K R => ?_)
  subst hEl
  have fail : liR t v = false → Wx E 35 [.ref (q 0), .int v] [] σ := by
    intro hf
    refine x_iconst C (nI 0) rfl d_x_live_35 ?_
    exact R (bI_nar false) ⟨by rw [hf]; rfl, rfl⟩ d_x_live_36
  refine x_aload_n C rfl d_x_live_0 ?_
  refine x_callVi C K s_x_179 (c_x_isTree (e_l E) h) rfl rfl rfl rfl rfl rfl d_x_live_1 (fun r σ' hr => ?_)
  obtain ⟨rfl, rfl⟩ := hr
  match t, h with
  | none, h => exact x_ifB_eq C d_x_live_4 (fun _ => fail rfl) (fun hh => by cases hh)
  | some (N, T), h =>
    obtain ⟨⟨hN, hT, hn⟩, hX, h19, h20, h22, h21, h23⟩ := h
    have h6 := hN.2.1
    refine x_ifB_eq C d_x_live_4 (fun hh => by cases hh) (fun _ => ?_)
    refine x_iload_n C rfl d_x_live_7 ?_
    refine x_if_lt C d_x_live_8 (fun z => fail (by simp [liR, ltB, z])) (fun z => ?_)
    refine x_iload_n C rfl d_x_live_11 ?_
    refine x_aload_n C rfl d_x_live_12 ?_
    refine x_getv C K 20 rfl rfl h20 d_x_live_13 ?_
    refine x_icmp_ge C d_x_live_16 (fun z2 => fail (by simp [liR, ltB, Int32.not_lt.mpr z2])) (fun z2 => ?_)
    have hlt := ltB_of z (Int32.not_le.mp z2)
    obtain ⟨s, hs, rfl⟩ := (ltB_iff (by omega)).mp hlt
    have es : (nI s).toNatClampNeg = s := nI_clamp (by omega)
    refine x_aload_n C rfl d_x_live_19 ?_
    refine x_getv C K 23 rfl rfl h23 d_x_live_20 ?_
    refine x_iload_n C rfl d_x_live_23 ?_
    refine x_ishr C d_x_live_24 ?_
    refine x_iconst C (nI 1) rfl d_x_live_25 ?_
    refine x_iand C d_x_live_26 ?_
    rw [lv_bit _ s (by omega)]
    refine x_iconst C (nI 1) rfl d_x_live_27 ?_
    refine x_icmp_ne C d_x_live_28 (fun z3 => fail ?_) (fun z3 => ?_)
    · have : lvB N T s = false := by
        cases hb : lvB N T s with
        | false => rfl
        | true => exact absurd (bI_1.mpr hb) z3
      simp [liR, es, this]
    · refine x_iconst C (nI 1) rfl d_x_live_31 ?_
      refine x_goto C d_x_live_32 ?_
      exact R (bI_nar true) ⟨by rw [liR, hlt, es, bI_1.mp z3]; rfl, rfl⟩ d_x_live_36
theorem c_x_limits (l : Launch) {σ : XS} {t : XTT} (h : RXu t σ) : XCi false l y_x_limits b_x_limits 1 .int 1 40 (fun q => [.ref (q 0)]) σ (fun r σ' => r = lmR t ∧ σ = σ') := by
  refine XCi.of (by decide) rfl (fun _ => rfl) (fun _ => rfl) (fun E q cA hEl C K R => ?_)
  subst hEl
  refine x_aload_n C rfl d_x_limits_0 ?_
  refine x_callVi C K s_x_179 (c_x_isTree (e_l E) h) rfl rfl rfl rfl rfl rfl d_x_limits_1 (fun r σ' hr => ?_)
  obtain ⟨rfl, rfl⟩ := hr
  match t, h with
  | none, h =>
    refine x_ifB_eq C d_x_limits_4 (fun _ => ?_) (fun hh => by cases hh)
    refine x_iconst C (-1) rfl d_x_limits_14 ?_
    exact R rfl ⟨rfl, rfl⟩ d_x_limits_15
  | some (N, T), h =>
    obtain ⟨⟨hN, hT, hn⟩, hX, h19, h20, h22, h21, h23⟩ := h
    refine x_ifB_eq C d_x_limits_4 (fun hh => by cases hh) (fun _ => ?_)
    refine x_aload_n C rfl d_x_limits_7 ?_
    refine x_getv C K 22 rfl rfl h22 d_x_limits_8 ?_
    refine x_goto C d_x_limits_11 ?_
    exact R rfl ⟨rfl, rfl⟩ d_x_limits_15
theorem c_x_limit (l : Launch) {σ : XS} {t : XTT} (h : RXu t σ) (a b : Int32) : XCi false l y_x_limit b_x_limit 4 .int 1 40 (fun q => [.ref (q 0), .int a, .int b]) σ (fun r σ' => r = ltR t a b ∧ σ = σ') := by
  refine XCi.of (by decide) rfl (fun _ => rfl) (fun _ => rfl) (fun E q cA hEl C K R => ?_)
  subst hEl
  have fail : ltR t a b = -1 → Wx E 35 [.ref (q 0), .int a, .int b] [] σ := by
    intro hf
    refine x_iconst C (nI 0) rfl d_x_limit_35 ?_
    refine x_istore_n C 3 rfl rfl rfl d_x_limit_36 ?_
    dsimp only [xst]
    refine x_iload_n C rfl d_x_limit_37 ?_
    refine x_ifB_eq (b := false) C d_x_limit_38 (fun _ => ?_) (fun hh => by cases hh)
    refine x_iconst C (-1) rfl d_x_limit_62 ?_
    exact R rfl ⟨hf.symm, rfl⟩ d_x_limit_63
  refine x_aload_n C rfl d_x_limit_0 ?_
  refine x_callVi C K s_x_179 (c_x_isTree (e_l E) h) rfl rfl rfl rfl rfl rfl d_x_limit_1 (fun r σ' hr => ?_)
  obtain ⟨rfl, rfl⟩ := hr
  match t, h with
  | none, h => exact x_ifB_eq C d_x_limit_4 (fun _ => fail rfl) (fun hh => by cases hh)
  | some (N, T), h =>
    obtain ⟨⟨hN, hT, hn⟩, hX, h19, h20, h22, h21, h23⟩ := h
    have h5 := hN.1
    have cl := tf_le T (tn T)
    refine x_ifB_eq C d_x_limit_4 (fun hh => by cases hh) (fun _ => ?_)
    refine x_iload_n C rfl d_x_limit_7 ?_
    refine x_if_lt C d_x_limit_8 (fun z => fail (by rw [ltR, if_neg (fun hh => by simp [ltB, z] at hh)])) (fun z => ?_)
    refine x_iload_n C rfl d_x_limit_11 ?_
    refine x_aload_n C rfl d_x_limit_12 ?_
    refine x_getv C K 22 rfl rfl h22 d_x_limit_13 ?_
    refine x_icmp_ge C d_x_limit_16 (fun z2 => fail (by rw [ltR, if_neg (fun hh => by simp [ltB, Int32.not_lt.mpr z2] at hh)])) (fun z2 => ?_)
    refine x_iload_n C rfl d_x_limit_19 ?_
    refine x_if_lt C d_x_limit_20 (fun z3 => fail (by rw [ltR, if_neg (fun hh => by simp [ltB, z3] at hh)])) (fun z3 => ?_)
    refine x_iload_n C rfl d_x_limit_23 ?_
    refine x_aload_n C rfl d_x_limit_24 ?_
    refine x_getv C K 19 rfl rfl h19 d_x_limit_25 ?_
    refine x_icmp_ge C d_x_limit_28 (fun z4 => fail (by rw [ltR, if_neg (fun hh => by simp [ltB, Int32.not_lt.mpr z4] at hh)])) (fun z4 => ?_)
    have l1 := ltB_of z (Int32.not_le.mp z2)
    have l2 := ltB_of z3 (Int32.not_le.mp z4)
    obtain ⟨k, hk, rfl⟩ := (ltB_iff (by omega)).mp l1
    obtain ⟨p, hp, rfl⟩ := (ltB_iff (by omega)).mp l2
    have tl := tf_lt T (tn T) k hk
    have bm := (hT.2 _ tl).2.le (by omega) p
    refine x_iconst C (nI 1) rfl d_x_limit_31 ?_
    refine x_goto C d_x_limit_32 ?_
    refine x_istore_n C 3 rfl rfl rfl d_x_limit_36 ?_
    dsimp only [xst]
    refine x_iload_n C rfl d_x_limit_37 ?_
    refine x_ifB_eq (b := true) C d_x_limit_38 (fun hh => by cases hh) (fun _ => ?_)
    refine x_aload_n C rfl d_x_limit_41 ?_
    refine x_geta C K 16 rfl (by decide) d_x_limit_42 ?_
    refine x_iconst C (nI 5) rfl d_x_limit_45 ?_
    refine x_aload_n C rfl d_x_limit_46 ?_
    refine x_geta C K 21 rfl (by decide) d_x_limit_47 ?_
    refine x_iload_n C rfl d_x_limit_50 ?_
    refine x_sald C K (k := 21) (N := 1000) rfl rfl (by omega) (h21 k hk) d_x_limit_51 ?_
    refine x_imulN C d_x_limit_52 ?_
    refine x_iload_n C rfl d_x_limit_53 ?_
    refine x_iaddN C d_x_limit_54 ?_
    refine x_iald C K (k := 16) (N := 5000) rfl rfl (by omega) (hX.2.1 _ tl p (by omega)) d_x_limit_55 ?_
    refine x_callSi C K s_x_182 (c_x_told (e_l E) bm) rfl rfl rfl rfl rfl rfl d_x_limit_56 (fun r σ' hr => ?_)
    obtain ⟨rfl, rfl⟩ := hr
    refine x_goto C d_x_limit_59 ?_
    refine R rfl ⟨?_, rfl⟩ d_x_limit_63
    rw [ltR, if_pos (by rw [l1, l2]; rfl), nI_clamp (n := k) (by omega), nI_clamp (n := p) (by omega)]
theorem xany_tops {P : Nat} {T : XT} (hT : TOK P T) (g : Mk) : xany (tf T (tn T)).1 (fun k => leM g (tm T ((tf T (tn T)).2 k))) = xany (tn T) (fun j => leM g (tm T j)) := by
  apply Bool.eq_iff_iff.mpr
  rw [xany_iff, xany_iff]
  exact covers_eq hT g
theorem c_x_covers (l : Launch) {σ : XS} {t : XTT} {M : XNet} (hM : NOK M) (hR : RX M σ) (h : RXu t σ) : XCi false l y_x_covers b_x_covers 4 .boolean 1 40 (fun q => [.ref (q 0)]) σ (fun r σ' => r = bI (cvR t M) ∧ σ = σ') := by
  refine XCi.of (by decide) rfl (fun _ => rfl) (fun _ => rfl) (fun E q cA hEl C K R => ?_)
  subst hEl
  have hO : (OM : Nat) = 1000000 := rfl
  refine x_iconst C (nI 0) rfl d_x_covers_0 ?_
  refine x_istore_n C 1 rfl rfl rfl d_x_covers_1 ?_
  dsimp only [xst]
  refine x_iconst C (nI 0) rfl d_x_covers_2 ?_
  refine x_istore_n C 2 rfl rfl rfl d_x_covers_3 ?_
  dsimp only [xst]
  match t, h with
  | none, h =>
    have fin : Wx E 90 [.ref (q 0), .int (nI 0), .int (nI 0)] [] σ := by
      refine x_iload_n C rfl d_x_covers_90 ?_
      exact R (bI_nar false) ⟨rfl, rfl⟩ d_x_covers_91
    refine x_iload_n C rfl d_x_covers_4 ?_
    refine x_aload_n C rfl d_x_covers_5 ?_
    refine x_geti C K 22 rfl rfl d_x_covers_6 ?_
    refine x_icmp_ge C d_x_covers_9 (fun _ => fin) (fun _ => ?_)
    refine x_aload_n C rfl d_x_covers_12 ?_
    refine x_callVi C K s_x_179 (c_x_isTree (e_l E) (t := none) h) rfl rfl rfl rfl rfl rfl d_x_covers_13 (fun r σ' hr => ?_)
    obtain ⟨rfl, rfl⟩ := hr
    exact x_ifB_eq C d_x_covers_16 (fun _ => fin) (fun hh => by cases hh)
  | some (N, T), h =>
    have h' := h
    obtain ⟨⟨hN, hT, hn⟩, hX, h19, h20, h22, h21, h23⟩ := h
    have h5 := hN.1
    have hM5 := hM.1
    have cl := tf_le T (tn T)
    have tl := tf_lt T (tn T)
    by_cases hPP : nP N = nP M
    · have ecv : cvR (some (N, T)) M = xany (tf T (tn T)).1 (fun k => leM (ngo M) (tm T ((tf T (tn T)).2 k))) := by
        rw [xany_tops hT, cvR, decide_eq_true hPP, Bool.true_and]
      generalize (tf T (tn T)).1 = c at *
      generalize (tf T (tn T)).2 = tp at *
      refine x_for (fun k => Wx E 4 [.ref (q 0), .int (bI (xany k (fun k => leM (ngo M) (tm T (tp k))))), .int (nI k)] [] σ) c (fun k hk ih => ?_) 0 (Nat.zero_le _)
      refine x_iload_n C rfl d_x_covers_4 ?_
      refine x_aload_n C rfl d_x_covers_5 ?_
      refine x_getv C K 22 rfl rfl h22 d_x_covers_6 ?_
      refine x_icmpN_ge C (by omega) (by omega) d_x_covers_9 (fun z => ?_) (fun z => ?_)
      · have e : k = c := by omega
        subst e
        refine x_iload_n C rfl d_x_covers_90 ?_
        exact R (bI_nar _) ⟨by rw [ecv], rfl⟩ d_x_covers_91
      · refine x_aload_n C rfl d_x_covers_12 ?_
        refine x_callVi C K s_x_179 (c_x_isTree (e_l E) h') rfl rfl rfl rfl rfl rfl d_x_covers_13 (fun r σ' hr => ?_)
        obtain ⟨rfl, rfl⟩ := hr
        refine x_ifB_eq C d_x_covers_16 (fun hh => by cases hh) (fun _ => ?_)
        refine x_aload_n C rfl d_x_covers_19 ?_
        refine x_getv C K 19 rfl rfl h19 d_x_covers_20 ?_
        refine x_aload_n C rfl d_x_covers_23 ?_
        refine x_getv C K 0 rfl rfl hR.1 d_x_covers_24 ?_
        refine x_icmpN_ne C (by omega) (by omega) d_x_covers_27 (fun hh => absurd hPP hh) (fun _ => ?_)
        refine x_iload_n C rfl d_x_covers_30 ?_
        refine x_ifB_ne C d_x_covers_31 (fun z2 => ?_) (fun z2 => ?_)
        · refine x_iload_n C rfl d_x_covers_90 ?_
          refine R (bI_nar _) ⟨?_, rfl⟩ d_x_covers_91
          rw [ecv, z2, xany_mono hk z2]
        · have ht := tl k z
          have ot := (hT.2 _ ht).2
          refine x_iconst C (nI 1) rfl d_x_covers_34 ?_
          refine x_istore_n C 1 rfl rfl rfl d_x_covers_35 ?_
          dsimp only [xst]
          refine x_iconst C (nI 0) rfl d_x_covers_36 ?_
          refine x_istore_n C 3 rfl rfl rfl d_x_covers_37 ?_
          dsimp only [xst]
          refine x_for (fun i => Wx E 38 [.ref (q 0), .int (bI (xall i (fun p => decide (ngo M p ≤ tm T (tp k) p)))), .int (nI k), .int (nI i)] [] σ) (nP M) (fun i hi ih2 => ?_) 0 (Nat.zero_le _)
          refine x_iload_n C rfl d_x_covers_38 ?_
          refine x_aload_n C rfl d_x_covers_39 ?_
          refine x_getv C K 0 rfl rfl hR.1 d_x_covers_40 ?_
          refine x_icmpN_ge C (by omega) (by omega) d_x_covers_43 (fun z3 => ?_) (fun z3 => ?_)
          · have e : i = nP M := by omega
            rw [e, leM_P hM5 (fun p h1 _ => by rw [hM.2.2.2.2.2.2.2.1 p h1]; exact Nat.zero_le _)]
            refine x_iincN (b := 1) C rfl rfl d_x_covers_84 ?_
            dsimp only [xst]
            refine x_goto C d_x_covers_87 ?_
            refine x_take 3 ?_
            have ih' := ih z
            rw [xany, z2, Bool.false_or] at ih'
            exact ih'
          · have b1 := ot.le (by omega) i
            have b2 := hM.2.2.2.1 i
            refine x_iload_n C rfl d_x_covers_46 ?_
            refine x_aload_n C rfl d_x_covers_47 ?_
            refine x_geta C K 16 rfl (by decide) d_x_covers_48 ?_
            refine x_iconst C (nI 5) rfl d_x_covers_51 ?_
            refine x_aload_n C rfl d_x_covers_52 ?_
            refine x_geta C K 21 rfl (by decide) d_x_covers_53 ?_
            refine x_iload_n C rfl d_x_covers_56 ?_
            refine x_sald C K (k := 21) (N := 1000) rfl rfl (by omega) (h21 k z) d_x_covers_57 ?_
            refine x_imulN C d_x_covers_58 ?_
            refine x_iload_n C rfl d_x_covers_59 ?_
            refine x_iaddN C d_x_covers_60 ?_
            refine x_iald C K (k := 16) (N := 5000) rfl rfl (by omega) (hX.2.1 _ ht i (by omega)) d_x_covers_61 ?_
            refine x_aload_n C rfl d_x_covers_62 ?_
            refine x_geta C K 4 rfl (by decide) d_x_covers_63 ?_
            refine x_iload_n C rfl d_x_covers_66 ?_
            refine x_iald C K (k := 4) (N := 5) rfl rfl (by omega) (hR.2.2.2.1 i (by omega)) d_x_covers_67 ?_
            refine x_cmpB_lt C (by omega) (by omega) d_x_covers_68 d_x_covers_71 d_x_covers_72 d_x_covers_75 ?_
            refine x_iandB C d_x_covers_76 ?_
            refine x_istore_n C 1 rfl rfl rfl d_x_covers_77 ?_
            dsimp only [xst]
            refine x_iincN (b := 1) C rfl rfl d_x_covers_78 ?_
            dsimp only [xst]
            refine x_goto C d_x_covers_81 ?_
            exact ih2 z3
    · have fin : Wx E 90 [.ref (q 0), .int (nI 0), .int (nI 0)] [] σ := by
        refine x_iload_n C rfl d_x_covers_90 ?_
        exact R (bI_nar false) ⟨by rw [cvR, decide_eq_false hPP]; rfl, rfl⟩ d_x_covers_91
      refine x_iload_n C rfl d_x_covers_4 ?_
      refine x_aload_n C rfl d_x_covers_5 ?_
      refine x_getv C K 22 rfl rfl h22 d_x_covers_6 ?_
      refine x_icmp_ge C d_x_covers_9 (fun _ => fin) (fun _ => ?_)
      refine x_aload_n C rfl d_x_covers_12 ?_
      refine x_callVi C K s_x_179 (c_x_isTree (e_l E) h') rfl rfl rfl rfl rfl rfl d_x_covers_13 (fun r σ' hr => ?_)
      obtain ⟨rfl, rfl⟩ := hr
      refine x_ifB_eq C d_x_covers_16 (fun _ => fin) (fun _ => ?_)
      refine x_aload_n C rfl d_x_covers_19 ?_
      refine x_getv C K 19 rfl rfl h19 d_x_covers_20 ?_
      refine x_aload_n C rfl d_x_covers_23 ?_
      refine x_getv C K 0 rfl rfl hR.1 d_x_covers_24 ?_
      exact x_icmpN_ne C (by omega) (by omega) d_x_covers_27 (fun _ => fin) (fun hh => absurd hh hPP)
def gpB (t : XTT) (v : Int32) : Bool := match t with
  | none => false
  | some (N, _) => ltB v (nP N)
theorem c_m_isGrownPlace (l : Launch) {σ : XS} {t : XTT} (h : RMu t σ) (v : Int32) : XCi true l y_m_isGrownPlace b_m_isGrownPlace 2 .boolean 0 0 (fun q => [.ref (q 0), .int v]) σ (fun r σ' => r = bI (gpB t v) ∧ σ = σ') := by
  refine XCi.of (by decide) rfl (fun _ => rfl) (fun _ => rfl) (fun E q cA hEl C K R => ?_)
  match t, h with
  | none, h =>
    refine x_aload_n C rfl d_m_isGrownPlace_0 ?_
    refine x_getv C K 17 rfl rfl h d_m_isGrownPlace_1 ?_
    refine x_ifB_eq (b := false) C d_m_isGrownPlace_4 (fun _ => ?_) (fun hh => by cases hh)
    refine x_iconst C (nI 0) rfl d_m_isGrownPlace_23 ?_
    exact R (bI_nar false) ⟨rfl, rfl⟩ d_m_isGrownPlace_24
  | some (N, T), h =>
    obtain ⟨-, hX, h17, h18, -⟩ := h
    refine x_aload_n C rfl d_m_isGrownPlace_0 ?_
    refine x_getv C K 17 rfl rfl h17 d_m_isGrownPlace_1 ?_
    refine x_ifB_eq (b := true) C d_m_isGrownPlace_4 (fun hh => by cases hh) (fun _ => ?_)
    refine x_iload_n C rfl d_m_isGrownPlace_7 ?_
    refine x_if_lt C d_m_isGrownPlace_8 (fun z => ?_) (fun z => ?_)
    · refine x_iconst C (nI 0) rfl d_m_isGrownPlace_23 ?_
      exact R (bI_nar false) ⟨by simp [gpB, ltB, z, bI], rfl⟩ d_m_isGrownPlace_24
    · refine x_iload_n C rfl d_m_isGrownPlace_11 ?_
      refine x_aload_n C rfl d_m_isGrownPlace_12 ?_
      refine x_getv C K 18 rfl rfl h18 d_m_isGrownPlace_13 ?_
      refine x_icmp_ge C d_m_isGrownPlace_16 (fun z2 => ?_) (fun z2 => ?_)
      · refine x_iconst C (nI 0) rfl d_m_isGrownPlace_23 ?_
        exact R (bI_nar false) ⟨by simp [gpB, ltB, Int32.not_lt.mpr z2, bI], rfl⟩ d_m_isGrownPlace_24
      · refine x_iconst C (nI 1) rfl d_m_isGrownPlace_19 ?_
        refine x_goto C d_m_isGrownPlace_20 ?_
        exact R (bI_nar true) ⟨by simp [gpB, ltB, z, Int32.not_le.mp z2, bI], rfl⟩ d_m_isGrownPlace_24
theorem c_m_most (l : Launch) {σ : XS} {t : XTT} (h : RMu t σ) (v : Int32) : XCi true l y_m_most b_m_most 4 .int 1 40 (fun q => [.ref (q 0), .int v]) σ (fun r σ' => r = moR t v ∧ σ = σ') := by
  refine XCi.of (by decide) rfl (fun _ => rfl) (fun _ => rfl) (fun E q cA hEl C K R => ?_)
  subst hEl
  have hO : (OM : Nat) = 1000000 := rfl
  refine x_aload_n C rfl d_m_most_0 ?_
  refine x_iload_n C rfl d_m_most_1 ?_
  refine x_callVi C K s_m_153 (c_m_isGrownPlace (e_l E) h v) rfl rfl rfl rfl rfl rfl d_m_most_2 (fun r σ' hr => ?_)
  obtain ⟨rfl, rfl⟩ := hr
  match t, h with
  | none, h =>
    refine x_ifB_ne C d_m_most_5 (fun hh => by cases hh) (fun _ => ?_)
    refine x_iconst C (-1) rfl d_m_most_8 ?_
    exact R rfl ⟨rfl, rfl⟩ d_m_most_9
  | some (N, T), h =>
    obtain ⟨⟨hN, hT, hn⟩, hX, h17, h18, -⟩ := h
    have h5 := hN.1
    refine x_ifB_ne C d_m_most_5 (fun hlt => ?_) (fun hlt => ?_)
    · have hlt : ltB v (nP N) = true := hlt
      obtain ⟨p, hp, rfl⟩ := (ltB_iff (by omega)).mp hlt
      have bm : ∀ j, j < tn T → tm T j p ≤ OM := fun j hj => (hT.2 j hj).2.le (by omega) p
      refine x_iconst C (nI 0) rfl d_m_most_10 ?_
      refine x_istore_n C 2 rfl rfl rfl d_m_most_11 ?_
      dsimp only [xst]
      refine x_iconst C (nI 0) rfl d_m_most_12 ?_
      refine x_istore_n C 3 rfl rfl rfl d_m_most_13 ?_
      dsimp only [xst]
      refine x_for (fun k => Wx E 14 [.ref (q 0), .int (nI p), .int (nI (mx T p k)), .int (nI k)] [] σ) (tn T) (fun k hk ih => ?_) 0 (Nat.zero_le _)
      have b1 := mx_le (T := T) (p := p) k (fun j hj => bm j (by omega))
      refine x_iload_n C rfl d_m_most_14 ?_
      refine x_aload_n C rfl d_m_most_15 ?_
      refine x_getv C K 19 rfl rfl hX.1 d_m_most_16 ?_
      refine x_icmpN_ge C (by omega) (by omega) d_m_most_19 (fun z3 => ?_) (fun z3 => ?_)
      · have e : k = tn T := by omega
        subst e
        refine x_iload_n C rfl d_m_most_57 ?_
        refine x_callSi C K s_m_156 (c_m_told (e_l E) b1) rfl rfl rfl rfl rfl rfl d_m_most_58 (fun r σ' hr => ?_)
        obtain ⟨rfl, rfl⟩ := hr
        exact R rfl ⟨by rw [moR, if_pos hlt, nI_clamp (by omega)], rfl⟩ d_m_most_61
      · have b2 := bm k z3
        have cont : Wx E 50 [.ref (q 0), .int (nI p), .int (nI (mx T p k)), .int (nI k)] [.int (nI (max (mx T p k) (tm T k p)))] σ := by
          refine x_istore_n C 2 rfl rfl rfl d_m_most_50 ?_
          dsimp only [xst]
          refine x_iincN (b := 1) C rfl rfl d_m_most_51 ?_
          dsimp only [xst]
          refine x_goto C d_m_most_54 ?_
          exact ih z3
        refine x_aload_n C rfl d_m_most_22 ?_
        refine x_geta C K 20 rfl (by decide) d_m_most_23 ?_
        refine x_iconst C (nI 5) rfl d_m_most_26 ?_
        refine x_iload_n C rfl d_m_most_27 ?_
        refine x_imulN C d_m_most_28 ?_
        refine x_iload_n C rfl d_m_most_29 ?_
        refine x_iaddN C d_m_most_30 ?_
        refine x_iald C K (k := 20) (N := 5005) rfl rfl (by omega) (hX.2.1 k z3 p (by omega)) d_m_most_31 ?_
        refine x_iload_n C rfl d_m_most_32 ?_
        refine x_icmpN_le C (by omega) (by omega) d_m_most_33 (fun z4 => ?_) (fun z4 => ?_)
        · rw [Nat.max_eq_left z4] at cont
          refine x_iload_n C rfl d_m_most_49 ?_
          exact cont
        · rw [Nat.max_eq_right (Nat.le_of_lt z4)] at cont
          refine x_aload_n C rfl d_m_most_36 ?_
          refine x_geta C K 20 rfl (by decide) d_m_most_37 ?_
          refine x_iconst C (nI 5) rfl d_m_most_40 ?_
          refine x_iload_n C rfl d_m_most_41 ?_
          refine x_imulN C d_m_most_42 ?_
          refine x_iload_n C rfl d_m_most_43 ?_
          refine x_iaddN C d_m_most_44 ?_
          refine x_iald C K (k := 20) (N := 5005) rfl rfl (by omega) (hX.2.1 k z3 p (by omega)) d_m_most_45 ?_
          refine x_goto C d_m_most_46 ?_
          exact cont
    · have hlt : ltB v (nP N) = false := hlt
      refine x_iconst C (-1) rfl d_m_most_8 ?_
      exact R rfl ⟨by rw [moR, if_neg (by rw [hlt]; decide)], rfl⟩ d_m_most_9
theorem c_m_live (l : Launch) {σ : XS} {t : XTT} (h : RMu t σ) (v : Int32) : XCi true l y_m_live b_m_live 2 .boolean 0 0 (fun q => [.ref (q 0), .int v]) σ (fun r σ' => r = bI (liR t v) ∧ σ = σ') := by
  refine XCi.of (by decide) rfl (fun _ => rfl) (fun _ => rfl) (fun E q cA hEl C K R => ?_)
  have fail : liR t v = false → Wx E 33 [.ref (q 0), .int v] [] σ := by
    intro hf
    refine x_iconst C (nI 0) rfl d_m_live_33 ?_
    exact R (bI_nar false) ⟨by rw [hf]; rfl, rfl⟩ d_m_live_34
  match t, h with
  | none, h =>
    refine x_aload_n C rfl d_m_live_0 ?_
    refine x_getv C K 17 rfl rfl h d_m_live_1 ?_
    exact x_ifB_eq (b := false) C d_m_live_4 (fun _ => fail rfl) (fun hh => by cases hh)
  | some (N, T), h =>
    obtain ⟨⟨hN, hT, hn⟩, hX, h17, h18, h23, h24, h22⟩ := h
    have h6 := hN.2.1
    refine x_aload_n C rfl d_m_live_0 ?_
    refine x_getv C K 17 rfl rfl h17 d_m_live_1 ?_
    refine x_ifB_eq (b := true) C d_m_live_4 (fun hh => by cases hh) (fun _ => ?_)
    refine x_iload_n C rfl d_m_live_7 ?_
    refine x_if_lt C d_m_live_8 (fun z => fail (by simp [liR, ltB, z])) (fun z => ?_)
    refine x_iload_n C rfl d_m_live_11 ?_
    refine x_bipush C (nI 6) (by decide) d_m_live_12 ?_
    refine x_icmp_ge C d_m_live_14 (fun z2 => fail ?_) (fun z2 => ?_)
    · cases hb : liR (some (N, T)) v with
      | false => rfl
      | true =>
        simp only [liR, Bool.and_eq_true] at hb
        obtain ⟨s, hs, rfl⟩ := (ltB_iff (by omega)).mp hb.1
        exact absurd z2 (nI_ge (by omega) (by omega))
    · have hlt := ltB_of z (Int32.not_le.mp z2)
      obtain ⟨s, hs, rfl⟩ := (ltB_iff (by omega)).mp hlt
      have es : (nI s).toNatClampNeg = s := nI_clamp (by omega)
      refine x_aload_n C rfl d_m_live_17 ?_
      refine x_getv C K 22 rfl rfl h22 d_m_live_18 ?_
      refine x_iload_n C rfl d_m_live_21 ?_
      refine x_ishr C d_m_live_22 ?_
      refine x_iconst C (nI 1) rfl d_m_live_23 ?_
      refine x_iand C d_m_live_24 ?_
      rw [lv_bit _ s hs]
      refine x_iconst C (nI 1) rfl d_m_live_25 ?_
      refine x_icmp_ne C d_m_live_26 (fun z3 => fail ?_) (fun z3 => ?_)
      · have : lvB N T s = false := by
          cases hb : lvB N T s with
          | false => rfl
          | true => exact absurd (bI_1.mpr hb) z3
        simp [liR, es, this]
      · have hb := bI_1.mp z3
        have hsT : s < nT N := by
          simp only [lvB, Bool.and_eq_true, decide_eq_true_eq] at hb
          exact hb.1
        refine x_iconst C (nI 1) rfl d_m_live_29 ?_
        refine x_goto C d_m_live_30 ?_
        exact R (bI_nar true) ⟨by rw [liR, es, hb, ltB_nI (by omega) (by omega), decide_eq_true hsT]; rfl, rfl⟩ d_m_live_34
theorem c_m_limits (l : Launch) {σ : XS} {t : XTT} (h : RMu t σ) : XCi true l y_m_limits b_m_limits 1 .int 0 0 (fun q => [.ref (q 0)]) σ (fun r σ' => r = lmR t ∧ σ = σ') := by
  refine XCi.of (by decide) rfl (fun _ => rfl) (fun _ => rfl) (fun E q cA hEl C K R => ?_)
  match t, h with
  | none, h =>
    refine x_aload_n C rfl d_m_limits_0 ?_
    refine x_getv C K 17 rfl rfl h d_m_limits_1 ?_
    refine x_ifB_eq (b := false) C d_m_limits_4 (fun _ => ?_) (fun hh => by cases hh)
    refine x_iconst C (-1) rfl d_m_limits_14 ?_
    exact R rfl ⟨rfl, rfl⟩ d_m_limits_15
  | some (N, T), h =>
    obtain ⟨⟨hN, hT, hn⟩, hX, h17, h18, h23, h24, h22⟩ := h
    refine x_aload_n C rfl d_m_limits_0 ?_
    refine x_getv C K 17 rfl rfl h17 d_m_limits_1 ?_
    refine x_ifB_eq (b := true) C d_m_limits_4 (fun hh => by cases hh) (fun _ => ?_)
    refine x_aload_n C rfl d_m_limits_7 ?_
    refine x_getv C K 23 rfl rfl h23 d_m_limits_8 ?_
    refine x_goto C d_m_limits_11 ?_
    exact R rfl ⟨rfl, rfl⟩ d_m_limits_15
theorem c_m_limit (l : Launch) {σ : XS} {t : XTT} (h : RMu t σ) (a b : Int32) : XCi true l y_m_limit b_m_limit 3 .int 1 40 (fun q => [.ref (q 0), .int a, .int b]) σ (fun r σ' => r = ltR t a b ∧ σ = σ') := by
  refine XCi.of (by decide) rfl (fun _ => rfl) (fun _ => rfl) (fun E q cA hEl C K R => ?_)
  subst hEl
  have fail : ltR t a b = -1 → Wx E 41 [.ref (q 0), .int a, .int b] [] σ := by
    intro hf
    refine x_iconst C (-1) rfl d_m_limit_41 ?_
    exact R rfl ⟨hf.symm, rfl⟩ d_m_limit_42
  refine x_aload_n C rfl d_m_limit_0 ?_
  refine x_iload_n C rfl d_m_limit_1 ?_
  refine x_callVi C K s_m_153 (c_m_isGrownPlace (e_l E) h b) rfl rfl rfl rfl rfl rfl d_m_limit_2 (fun r σ' hr => ?_)
  obtain ⟨rfl, rfl⟩ := hr
  match t, h with
  | none, h => exact x_ifB_eq C d_m_limit_5 (fun _ => fail rfl) (fun hh => by cases hh)
  | some (N, T), h =>
    obtain ⟨⟨hN, hT, hn⟩, hX, h17, h18, h23, h24, h22⟩ := h
    have h5 := hN.1
    have cl := tf_le T (tn T)
    refine x_ifB_eq C d_m_limit_5 (fun l2 => fail ?_) (fun l2 => ?_)
    · have l2 : ltB b (nP N) = false := l2
      rw [ltR, if_neg (by rw [l2, Bool.and_false]; decide)]
    have l2 : ltB b (nP N) = true := l2
    refine x_iload_n C rfl d_m_limit_8 ?_
    refine x_if_lt C d_m_limit_9 (fun z => fail (by rw [ltR, if_neg (fun hh => by simp [ltB, z] at hh)])) (fun z => ?_)
    refine x_iload_n C rfl d_m_limit_12 ?_
    refine x_aload_n C rfl d_m_limit_13 ?_
    refine x_getv C K 23 rfl rfl h23 d_m_limit_14 ?_
    refine x_icmp_ge C d_m_limit_17 (fun z2 => fail (by rw [ltR, if_neg (fun hh => by simp [ltB, Int32.not_lt.mpr z2] at hh)])) (fun z2 => ?_)
    have l1 := ltB_of z (Int32.not_le.mp z2)
    obtain ⟨k, hk, rfl⟩ := (ltB_iff (by omega)).mp l1
    obtain ⟨p, hp, rfl⟩ := (ltB_iff (by omega)).mp l2
    have tl := tf_lt T (tn T) k hk
    have bm := (hT.2 _ tl).2.le (by omega) p
    refine x_aload_n C rfl d_m_limit_20 ?_
    refine x_geta C K 20 rfl (by decide) d_m_limit_21 ?_
    refine x_iconst C (nI 5) rfl d_m_limit_24 ?_
    refine x_aload_n C rfl d_m_limit_25 ?_
    refine x_geta C K 24 rfl (by decide) d_m_limit_26 ?_
    refine x_iload_n C rfl d_m_limit_29 ?_
    refine x_iald C K (k := 24) (N := 1001) rfl rfl (by omega) (h24 k hk) d_m_limit_30 ?_
    refine x_imulN C d_m_limit_31 ?_
    refine x_iload_n C rfl d_m_limit_32 ?_
    refine x_iaddN C d_m_limit_33 ?_
    refine x_iald C K (k := 20) (N := 5005) rfl rfl (by omega) (hX.2.1 _ tl p (by omega)) d_m_limit_34 ?_
    refine x_callSi C K s_m_156 (c_m_told (e_l E) bm) rfl rfl rfl rfl rfl rfl d_m_limit_35 (fun r σ' hr => ?_)
    obtain ⟨rfl, rfl⟩ := hr
    refine x_goto C d_m_limit_38 ?_
    refine R rfl ⟨?_, rfl⟩ d_m_limit_42
    rw [ltR, if_pos (by rw [l1, l2]; rfl), nI_clamp (n := k) (by omega), nI_clamp (n := p) (by omega)]
theorem c_m_covers (l : Launch) {σ : XS} {t : XTT} {M : XNet} (hM : NOK M) (hR : RM M σ) (h : RMu t σ) : XCi true l y_m_covers b_m_covers 3 .boolean 1 40 (fun q => [.ref (q 0)]) σ (fun r σ' => r = bI (cvR t M) ∧ σ = σ') := by
  refine XCi.of (by decide) rfl (fun _ => rfl) (fun _ => rfl) (fun E q cA hEl C K R => ?_)
  subst hEl
  have hO : (OM : Nat) = 1000000 := rfl
  refine x_iconst C (nI 0) rfl d_m_covers_0 ?_
  refine x_istore_n C 1 rfl rfl rfl d_m_covers_1 ?_
  dsimp only [xst]
  refine x_iconst C (nI 0) rfl d_m_covers_2 ?_
  refine x_istore_n C 2 rfl rfl rfl d_m_covers_3 ?_
  dsimp only [xst]
  match t, h with
  | none, h =>
    have fin : Wx E 64 [.ref (q 0), .int (nI 0), .int (nI 0)] [] σ := by
      refine x_iload_n C rfl d_m_covers_64 ?_
      exact R (bI_nar false) ⟨rfl, rfl⟩ d_m_covers_65
    refine x_iload_n C rfl d_m_covers_4 ?_
    refine x_aload_n C rfl d_m_covers_5 ?_
    refine x_geti C K 19 rfl rfl d_m_covers_6 ?_
    refine x_icmp_ge C d_m_covers_9 (fun _ => fin) (fun _ => ?_)
    refine x_aload_n C rfl d_m_covers_12 ?_
    refine x_getv C K 17 rfl rfl h d_m_covers_13 ?_
    exact x_ifB_eq (b := false) C d_m_covers_16 (fun _ => fin) (fun hh => by cases hh)
  | some (N, T), h =>
    obtain ⟨⟨hN, hT, hn⟩, hX, h17, h18, -⟩ := h
    have h5 := hN.1
    have hM5 := hM.1
    by_cases hPP : nP N = nP M
    · have ecv : cvR (some (N, T)) M = xany (tn T) (fun j => leM (ngo M) (tm T j)) := by rw [cvR, decide_eq_true hPP, Bool.true_and]
      refine x_for (fun k => Wx E 4 [.ref (q 0), .int (bI (xany k (fun j => leM (ngo M) (tm T j)))), .int (nI k)] [] σ) (tn T) (fun k hk ih => ?_) 0 (Nat.zero_le _)
      refine x_iload_n C rfl d_m_covers_4 ?_
      refine x_aload_n C rfl d_m_covers_5 ?_
      refine x_getv C K 19 rfl rfl hX.1 d_m_covers_6 ?_
      refine x_icmpN_ge C (by omega) (by omega) d_m_covers_9 (fun z => ?_) (fun z => ?_)
      · have e : k = tn T := by omega
        subst e
        refine x_iload_n C rfl d_m_covers_64 ?_
        exact R (bI_nar _) ⟨by rw [ecv], rfl⟩ d_m_covers_65
      · have ok := (hT.2 k z).2
        have ih' := ih z
        rw [xany] at ih'
        generalize xany k (fun j => leM (ngo M) (tm T j)) = b at ih' ⊢
        have cont : Wx E 57 [.ref (q 0), .int (bI b), .int (nI k)] [.int (bI (b || leM (ngo M) (tm T k)))] σ := by
          refine x_istore_n C 1 rfl rfl rfl d_m_covers_57 ?_
          dsimp only [xst]
          refine x_iincN (b := 1) C rfl rfl d_m_covers_58 ?_
          dsimp only [xst]
          refine x_goto C d_m_covers_61 ?_
          exact ih'
        refine x_aload_n C rfl d_m_covers_12 ?_
        refine x_getv C K 17 rfl rfl h17 d_m_covers_13 ?_
        refine x_ifB_eq (b := true) C d_m_covers_16 (fun hh => by cases hh) (fun _ => ?_)
        refine x_aload_n C rfl d_m_covers_19 ?_
        refine x_getv C K 18 rfl rfl h18 d_m_covers_20 ?_
        refine x_aload_n C rfl d_m_covers_23 ?_
        refine x_getv C K 0 rfl rfl hR.1 d_m_covers_24 ?_
        refine x_icmpN_ne C (by omega) (by omega) d_m_covers_27 (fun hh => absurd hPP hh) (fun _ => ?_)
        refine x_iload_n C rfl d_m_covers_30 ?_
        refine x_ifB_ne C d_m_covers_31 (fun z2 => ?_) (fun z2 => ?_)
        · refine x_iconst C (nI 1) rfl d_m_covers_52 ?_
          refine x_goto C d_m_covers_53 ?_
          rw [show bI (b || leM (ngo M) (tm T k)) = nI 1 by rw [z2]; rfl] at cont
          exact cont
        · refine x_aload_n C rfl d_m_covers_34 ?_
          refine x_geta C K 20 rfl (by decide) d_m_covers_35 ?_
          refine x_iconst C (nI 5) rfl d_m_covers_38 ?_
          refine x_iload_n C rfl d_m_covers_39 ?_
          refine x_imulN C d_m_covers_40 ?_
          refine x_aload_n C rfl d_m_covers_41 ?_
          refine x_geta C K 2 rfl (by decide) d_m_covers_42 ?_
          refine x_iconst C (nI 0) rfl d_m_covers_45 ?_
          refine x_callSi C K s_m_83 (c_m_tops (e_l E) (k0 := 20) (n0 := 5005) (k2 := 2) (n2 := 5) (a := 5 * k) (b := 0) (u := tm T k) (v := ngo M) rfl rfl rfl rfl (by omega) (by omega) (hX.2.1 k z) (mk0.at (hR.2.2.2.1)) (ok.b (by omega)) (fun p _ => by have := hM.2.2.2.1 p; omega)) rfl rfl rfl rfl rfl rfl d_m_covers_46 (fun r σ' hr => ?_)
          obtain ⟨rfl, rfl⟩ := hr
          refine x_ifB_eq C d_m_covers_49 (fun z3 => ?_) (fun z3 => ?_)
          · refine x_iconst C (nI 0) rfl d_m_covers_56 ?_
            rw [show bI (b || leM (ngo M) (tm T k)) = nI 0 by rw [z2, z3]; rfl] at cont
            exact cont
          · refine x_iconst C (nI 1) rfl d_m_covers_52 ?_
            refine x_goto C d_m_covers_53 ?_
            rw [show bI (b || leM (ngo M) (tm T k)) = nI 1 by rw [z3]; simp [bI]] at cont
            exact cont
    · have fin : Wx E 64 [.ref (q 0), .int (nI 0), .int (nI 0)] [] σ := by
        refine x_iload_n C rfl d_m_covers_64 ?_
        exact R (bI_nar false) ⟨by rw [cvR, decide_eq_false hPP]; rfl, rfl⟩ d_m_covers_65
      refine x_iload_n C rfl d_m_covers_4 ?_
      refine x_aload_n C rfl d_m_covers_5 ?_
      refine x_getv C K 19 rfl rfl hX.1 d_m_covers_6 ?_
      refine x_icmp_ge C d_m_covers_9 (fun _ => fin) (fun _ => ?_)
      refine x_aload_n C rfl d_m_covers_12 ?_
      refine x_getv C K 17 rfl rfl h17 d_m_covers_13 ?_
      refine x_ifB_eq (b := true) C d_m_covers_16 (fun hh => by cases hh) (fun _ => ?_)
      refine x_aload_n C rfl d_m_covers_19 ?_
      refine x_getv C K 18 rfl rfl h18 d_m_covers_20 ?_
      refine x_aload_n C rfl d_m_covers_23 ?_
      refine x_getv C K 0 rfl rfl hR.1 d_m_covers_24 ?_
      exact x_icmpN_ne C (by omega) (by omega) d_m_covers_27 (fun _ => fin) (fun hh => absurd hh hPP)
end
section
/-! the constructors -/
set_option maxRecDepth 20000 in
theorem tb_aint : Cond.arrayClass .int ∈ lw_g := mg (List.mem_of_getElem? (i := 125) rfl) rfl
set_option maxRecDepth 20000 in
theorem tb_abyte : Cond.arrayClass .byte ∈ lw_g := mg (List.mem_of_getElem? (i := 126) rfl) rfl
set_option maxRecDepth 20000 in
theorem tb_ashort : Cond.arrayClass .short ∈ lw_g := mg (List.mem_of_getElem? (i := 127) rfl) rfl
set_option maxRecDepth 20000 in
theorem tb_oix : Cond.methodLink "CoverRounds" 1 objectInit ∈ lw_g ∧ Cond.instanceMethod objectInit ∈ lw_g ∧ Cond.code objectInit ⟨#[0xb1]⟩ 1 none ∈ lw_g := ⟨mg (List.mem_of_getElem? (i := 48) rfl) rfl, mg (List.mem_of_getElem? (i := 49) rfl) rfl, mg (List.mem_of_getElem? (i := 50) rfl) rfl⟩
set_option maxRecDepth 20000 in
theorem tb_oim : Cond.methodLink "CoverRoundsModel" 1 objectInit ∈ lw_g ∧ Cond.instanceMethod objectInit ∈ lw_g ∧ Cond.code objectInit ⟨#[0xb1]⟩ 1 none ∈ lw_g := ⟨mg (List.mem_of_getElem? (i := 302) rfl) rfl, mg (List.mem_of_getElem? (i := 49) rfl) rfl, mg (List.mem_of_getElem? (i := 50) rfl) rfl⟩
def x_0 : XS := fun k => match k with
  | 9 => fun _ => -1
  | 10 => fun _ => -1
  | 20 => fun _ => -1
  | _ => fun _ => 0
def m_0 : XS := fun k => match k with
  | 7 => fun _ => 2
  | _ => fun _ => 0
/-- what a new object is, before its constructor -/
abbrev w0_x (h0 : Nat) : va_W := [(h0, .inr (0, [.int 0, .int 0, .null, .null, .null, .null, .null, .null, .null, .int 0, .int 0, .null, .int 0, .null, .null, .null, .null, .null, .int 0, .int 0, .int 0, .null, .int 0, .int 0]))]
set_option maxHeartbeats 4000000 in
set_option maxRecDepth 100000 in
theorem c_x_init (l : Launch) (D : va_G) (h0 sz : Nat) : Met l y_x_init (.code y_x_init b_x_init 1 none :: lw_g) ({ frames := 1, cells := 14, slots := 75216, locals := 12 }) (va_Pc [.ref h0] (fun U => U.heap.size = sz ∧ va_P D classes (w0_x h0) U.heap ∧ va_K D classes [] U ∧ va_D (fun _ => True) (w0_x h0))) (va_Qv (fun u : (Nat → Nat) × (Nat → ClassId) => u.1 0 = h0) (fun u t => va_P D classes (xw false u.1 u.2 x_0) t.heap ∧ va_K D classes (xtys false u.2) t ∧ va_D (va_A (w0_x h0) sz) (xw false u.1 u.2 x_0)) (va_A (w0_x h0) sz)) 14 75216 (va_A (w0_x h0) sz) := by
  refine Met.ofW (cc := b_x_init) (maxL := 1) (ret := none) (by decide) rfl ?_
  intro p e s m args below meth c s₁ B hml hv
  obtain ⟨rfl, hsz, hP, hK, hD0⟩ := hv
  have hx := B.exec
  have hb := B.bytes
  have hr := B.returns
  have hts0 := atoms_spec (ws := .code y_x_init b_x_init 1 none :: lw_g) B.pre
  have hts : ∀ w ∈ lw_g, w.before _ s = true := fun w hw => hts0 w (List.mem_cons_of_mem _ hw)
  have hown : s.vm.findClass "CoverRounds" = some m.cls := findClass_of_methodNamed B.named
  have hlocks := B.notSynchronized
  have hin : meth.name = "<init>" := (name_of_methodNamed B.named B.method).1
  subst hsz
  have hD := hD0.self (sz := s.heap.size)
  generalize hAe : va_A (w0_x h0) s.heap.size = A at hD ⊢
  have hA : ∀ q : Nat, s.heap.size ≤ q → A q := fun q h => by rw [← hAe]; exact Or.inr h
  have hS : va_S A s.heap s.heap [] := va_S.rf
  have hl := lv_entry ([.ref h0]) (n := 1) (Nat.le_of_ble_eq_true rfl)
  rw [lg_entry_eq]
  generalize (lg_sl ([.ref h0]) ++ List.replicate (1 - (lg_sl ([.ref h0])).length) Slot.unset).toArray = ls at hl ⊢
  have hl : lv_has ls 1 [(0, .ref h0)] := hl
  refine lv_aload_n hx hb d_x_init_0.1 rfl (lv_at hl 0 rfl) ?_
  refine W.objInit hx hb hown (hts _ tb_oix.1) (hts _ tb_oix.2.1) (hts _ tb_oix.2.2) rfl (by rw [hml]; exact hl.1) rfl d_x_init_1.1 (Nat.le_of_ble_eq_true rfl) (Nat.le_of_ble_eq_true rfl) ?_
  refine W.eq (g2 := F0 m 4 ls []) rfl ?_
  refine lv_aload_n hx hb d_x_init_4.1 rfl (lv_at hl 0 rfl) ?_
  refine lv_iconst (v := 5) hx hb d_x_init_5.1 (by decide) ?_
  refine va_newa (atype := .int) (ty := .int) (a0 := (5, .inl (fun _ => 0))) hx hb (hts _ tb_aint) rfl hK hP hD hS hA (fun _ => rfl) (by decide) (by decide) (by decide) (Nat.le_of_ble_eq_true rfl) (Nat.le_of_ble_eq_true rfl) d_x_init_6.1 (fun q2 c2 H hK hP hD hS => ?_)
  have hK : va_K D classes [(c2, .int)] s := hK
  have hP : va_P D classes [(h0, .inr (0, [.int 0, .int 0, .null, .null, .null, .null, .null, .null, .null, .int 0, .int 0, .null, .int 0, .null, .null, .null, .null, .null, .int 0, .int 0, .int 0, .null, .int 0, .int 0])), (q2, .inl (c2, 5, .inl (fun _ => 0)))] H := hP
  have hD : va_D A [(h0, .inr (0, [.int 0, .int 0, .null, .null, .null, .null, .null, .null, .null, .int 0, .int 0, .null, .int 0, .null, .null, .null, .null, .null, .int 0, .int 0, .int 0, .null, .int 0, .int 0])), (q2, .inl (c2, 5, .inl (fun _ => 0)))] := hD
  refine W.widen (k := 1) (n := 5) (by decide) (by decide) ?_
  refine va_putF (ci := 0) (v := .ref q2) (C := "CoverRounds") (T := F_x) (N := 24) hx hb hts xin_x t_x xtok_x xnm_x hown hK hP hD hS 0 rfl rfl 2 (by decide) (hts _ (xfl_x 2 (by decide))) (fun _ h9 => h9) rfl hin rfl (xtok_x 2 (by decide)) rfl rfl (Nat.le_of_ble_eq_true rfl) d_x_init_8.1 (fun H locs hP hD hS => ?_)
  have hP : va_P D classes [(h0, .inr (0, [.int 0, .int 0, .ref q2, .null, .null, .null, .null, .null, .null, .int 0, .int 0, .null, .int 0, .null, .null, .null, .null, .null, .int 0, .int 0, .int 0, .null, .int 0, .int 0])), (q2, .inl (c2, 5, .inl (fun _ => 0)))] H := hP
  have hD : va_D A [(h0, .inr (0, [.int 0, .int 0, .ref q2, .null, .null, .null, .null, .null, .null, .int 0, .int 0, .null, .int 0, .null, .null, .null, .null, .null, .int 0, .int 0, .int 0, .null, .int 0, .int 0])), (q2, .inl (c2, 5, .inl (fun _ => 0)))] := hD
  refine lv_aload_n hx hb d_x_init_11.1 rfl (lv_at hl 0 rfl) ?_
  refine lv_iconst (v := 5) hx hb d_x_init_12.1 (by decide) ?_
  refine va_newa (atype := .int) (ty := .int) (a0 := (5, .inl (fun _ => 0))) hx hb (hts _ tb_aint) rfl hK hP hD hS hA (fun _ => rfl) (by decide) (by decide) (by decide) (Nat.le_of_ble_eq_true rfl) (Nat.le_of_ble_eq_true rfl) d_x_init_13.1 (fun q3 c3 H hK hP hD hS => ?_)
  have hK : va_K D classes [(c2, .int), (c3, .int)] s := hK
  have hP : va_P D classes [(h0, .inr (0, [.int 0, .int 0, .ref q2, .null, .null, .null, .null, .null, .null, .int 0, .int 0, .null, .int 0, .null, .null, .null, .null, .null, .int 0, .int 0, .int 0, .null, .int 0, .int 0])), (q2, .inl (c2, 5, .inl (fun _ => 0))), (q3, .inl (c3, 5, .inl (fun _ => 0)))] H := hP
  have hD : va_D A [(h0, .inr (0, [.int 0, .int 0, .ref q2, .null, .null, .null, .null, .null, .null, .int 0, .int 0, .null, .int 0, .null, .null, .null, .null, .null, .int 0, .int 0, .int 0, .null, .int 0, .int 0])), (q2, .inl (c2, 5, .inl (fun _ => 0))), (q3, .inl (c3, 5, .inl (fun _ => 0)))] := hD
  refine W.widen (k := 2) (n := 10) (by decide) (by decide) ?_
  refine va_putF (ci := 0) (v := .ref q3) (C := "CoverRounds") (T := F_x) (N := 24) hx hb hts xin_x t_x xtok_x xnm_x hown hK hP hD hS 0 rfl rfl 3 (by decide) (hts _ (xfl_x 3 (by decide))) (fun _ h9 => h9) rfl hin rfl (xtok_x 3 (by decide)) rfl rfl (Nat.le_of_ble_eq_true rfl) d_x_init_15.1 (fun H locs hP hD hS => ?_)
  have hP : va_P D classes [(h0, .inr (0, [.int 0, .int 0, .ref q2, .ref q3, .null, .null, .null, .null, .null, .int 0, .int 0, .null, .int 0, .null, .null, .null, .null, .null, .int 0, .int 0, .int 0, .null, .int 0, .int 0])), (q2, .inl (c2, 5, .inl (fun _ => 0))), (q3, .inl (c3, 5, .inl (fun _ => 0)))] H := hP
  have hD : va_D A [(h0, .inr (0, [.int 0, .int 0, .ref q2, .ref q3, .null, .null, .null, .null, .null, .int 0, .int 0, .null, .int 0, .null, .null, .null, .null, .null, .int 0, .int 0, .int 0, .null, .int 0, .int 0])), (q2, .inl (c2, 5, .inl (fun _ => 0))), (q3, .inl (c3, 5, .inl (fun _ => 0)))] := hD
  refine lv_aload_n hx hb d_x_init_18.1 rfl (lv_at hl 0 rfl) ?_
  refine lv_iconst (v := 5) hx hb d_x_init_19.1 (by decide) ?_
  refine va_newa (atype := .int) (ty := .int) (a0 := (5, .inl (fun _ => 0))) hx hb (hts _ tb_aint) rfl hK hP hD hS hA (fun _ => rfl) (by decide) (by decide) (by decide) (Nat.le_of_ble_eq_true rfl) (Nat.le_of_ble_eq_true rfl) d_x_init_20.1 (fun q4 c4 H hK hP hD hS => ?_)
  have hK : va_K D classes [(c2, .int), (c3, .int), (c4, .int)] s := hK
  have hP : va_P D classes [(h0, .inr (0, [.int 0, .int 0, .ref q2, .ref q3, .null, .null, .null, .null, .null, .int 0, .int 0, .null, .int 0, .null, .null, .null, .null, .null, .int 0, .int 0, .int 0, .null, .int 0, .int 0])), (q2, .inl (c2, 5, .inl (fun _ => 0))), (q3, .inl (c3, 5, .inl (fun _ => 0))), (q4, .inl (c4, 5, .inl (fun _ => 0)))] H := hP
  have hD : va_D A [(h0, .inr (0, [.int 0, .int 0, .ref q2, .ref q3, .null, .null, .null, .null, .null, .int 0, .int 0, .null, .int 0, .null, .null, .null, .null, .null, .int 0, .int 0, .int 0, .null, .int 0, .int 0])), (q2, .inl (c2, 5, .inl (fun _ => 0))), (q3, .inl (c3, 5, .inl (fun _ => 0))), (q4, .inl (c4, 5, .inl (fun _ => 0)))] := hD
  refine W.widen (k := 3) (n := 15) (by decide) (by decide) ?_
  refine va_putF (ci := 0) (v := .ref q4) (C := "CoverRounds") (T := F_x) (N := 24) hx hb hts xin_x t_x xtok_x xnm_x hown hK hP hD hS 0 rfl rfl 4 (by decide) (hts _ (xfl_x 4 (by decide))) (fun _ h9 => h9) rfl hin rfl (xtok_x 4 (by decide)) rfl rfl (Nat.le_of_ble_eq_true rfl) d_x_init_22.1 (fun H locs hP hD hS => ?_)
  have hP : va_P D classes [(h0, .inr (0, [.int 0, .int 0, .ref q2, .ref q3, .ref q4, .null, .null, .null, .null, .int 0, .int 0, .null, .int 0, .null, .null, .null, .null, .null, .int 0, .int 0, .int 0, .null, .int 0, .int 0])), (q2, .inl (c2, 5, .inl (fun _ => 0))), (q3, .inl (c3, 5, .inl (fun _ => 0))), (q4, .inl (c4, 5, .inl (fun _ => 0)))] H := hP
  have hD : va_D A [(h0, .inr (0, [.int 0, .int 0, .ref q2, .ref q3, .ref q4, .null, .null, .null, .null, .int 0, .int 0, .null, .int 0, .null, .null, .null, .null, .null, .int 0, .int 0, .int 0, .null, .int 0, .int 0])), (q2, .inl (c2, 5, .inl (fun _ => 0))), (q3, .inl (c3, 5, .inl (fun _ => 0))), (q4, .inl (c4, 5, .inl (fun _ => 0)))] := hD
  refine lv_aload_n hx hb d_x_init_25.1 rfl (lv_at hl 0 rfl) ?_
  refine lv_bipush (v := 30) hx hb d_x_init_26.1 (by decide) ?_
  refine va_newa (atype := .byte) (ty := .byte) (a0 := (30, .inl (fun _ => 0))) hx hb (hts _ tb_abyte) rfl hK hP hD hS hA (fun _ => rfl) (by decide) (by decide) (by decide) (Nat.le_of_ble_eq_true rfl) (Nat.le_of_ble_eq_true rfl) d_x_init_28.1 (fun q5 c5 H hK hP hD hS => ?_)
  have hK : va_K D classes [(c2, .int), (c3, .int), (c4, .int), (c5, .byte)] s := hK
  have hP : va_P D classes [(h0, .inr (0, [.int 0, .int 0, .ref q2, .ref q3, .ref q4, .null, .null, .null, .null, .int 0, .int 0, .null, .int 0, .null, .null, .null, .null, .null, .int 0, .int 0, .int 0, .null, .int 0, .int 0])), (q2, .inl (c2, 5, .inl (fun _ => 0))), (q3, .inl (c3, 5, .inl (fun _ => 0))), (q4, .inl (c4, 5, .inl (fun _ => 0))), (q5, .inl (c5, 30, .inl (fun _ => 0)))] H := hP
  have hD : va_D A [(h0, .inr (0, [.int 0, .int 0, .ref q2, .ref q3, .ref q4, .null, .null, .null, .null, .int 0, .int 0, .null, .int 0, .null, .null, .null, .null, .null, .int 0, .int 0, .int 0, .null, .int 0, .int 0])), (q2, .inl (c2, 5, .inl (fun _ => 0))), (q3, .inl (c3, 5, .inl (fun _ => 0))), (q4, .inl (c4, 5, .inl (fun _ => 0))), (q5, .inl (c5, 30, .inl (fun _ => 0)))] := hD
  refine W.widen (k := 4) (n := 45) (by decide) (by decide) ?_
  refine va_putF (ci := 0) (v := .ref q5) (C := "CoverRounds") (T := F_x) (N := 24) hx hb hts xin_x t_x xtok_x xnm_x hown hK hP hD hS 0 rfl rfl 5 (by decide) (hts _ (xfl_x 5 (by decide))) (fun _ h9 => h9) rfl hin rfl (xtok_x 5 (by decide)) rfl rfl (Nat.le_of_ble_eq_true rfl) d_x_init_30.1 (fun H locs hP hD hS => ?_)
  have hP : va_P D classes [(h0, .inr (0, [.int 0, .int 0, .ref q2, .ref q3, .ref q4, .ref q5, .null, .null, .null, .int 0, .int 0, .null, .int 0, .null, .null, .null, .null, .null, .int 0, .int 0, .int 0, .null, .int 0, .int 0])), (q2, .inl (c2, 5, .inl (fun _ => 0))), (q3, .inl (c3, 5, .inl (fun _ => 0))), (q4, .inl (c4, 5, .inl (fun _ => 0))), (q5, .inl (c5, 30, .inl (fun _ => 0)))] H := hP
  have hD : va_D A [(h0, .inr (0, [.int 0, .int 0, .ref q2, .ref q3, .ref q4, .ref q5, .null, .null, .null, .int 0, .int 0, .null, .int 0, .null, .null, .null, .null, .null, .int 0, .int 0, .int 0, .null, .int 0, .int 0])), (q2, .inl (c2, 5, .inl (fun _ => 0))), (q3, .inl (c3, 5, .inl (fun _ => 0))), (q4, .inl (c4, 5, .inl (fun _ => 0))), (q5, .inl (c5, 30, .inl (fun _ => 0)))] := hD
  refine lv_aload_n hx hb d_x_init_33.1 rfl (lv_at hl 0 rfl) ?_
  refine lv_bipush (v := 30) hx hb d_x_init_34.1 (by decide) ?_
  refine va_newa (atype := .byte) (ty := .byte) (a0 := (30, .inl (fun _ => 0))) hx hb (hts _ tb_abyte) rfl hK hP hD hS hA (fun _ => rfl) (by decide) (by decide) (by decide) (Nat.le_of_ble_eq_true rfl) (Nat.le_of_ble_eq_true rfl) d_x_init_36.1 (fun q6 c6 H hK hP hD hS => ?_)
  have hK : va_K D classes [(c2, .int), (c3, .int), (c4, .int), (c5, .byte), (c6, .byte)] s := hK
  have hP : va_P D classes [(h0, .inr (0, [.int 0, .int 0, .ref q2, .ref q3, .ref q4, .ref q5, .null, .null, .null, .int 0, .int 0, .null, .int 0, .null, .null, .null, .null, .null, .int 0, .int 0, .int 0, .null, .int 0, .int 0])), (q2, .inl (c2, 5, .inl (fun _ => 0))), (q3, .inl (c3, 5, .inl (fun _ => 0))), (q4, .inl (c4, 5, .inl (fun _ => 0))), (q5, .inl (c5, 30, .inl (fun _ => 0))), (q6, .inl (c6, 30, .inl (fun _ => 0)))] H := hP
  have hD : va_D A [(h0, .inr (0, [.int 0, .int 0, .ref q2, .ref q3, .ref q4, .ref q5, .null, .null, .null, .int 0, .int 0, .null, .int 0, .null, .null, .null, .null, .null, .int 0, .int 0, .int 0, .null, .int 0, .int 0])), (q2, .inl (c2, 5, .inl (fun _ => 0))), (q3, .inl (c3, 5, .inl (fun _ => 0))), (q4, .inl (c4, 5, .inl (fun _ => 0))), (q5, .inl (c5, 30, .inl (fun _ => 0))), (q6, .inl (c6, 30, .inl (fun _ => 0)))] := hD
  refine W.widen (k := 5) (n := 75) (by decide) (by decide) ?_
  refine va_putF (ci := 0) (v := .ref q6) (C := "CoverRounds") (T := F_x) (N := 24) hx hb hts xin_x t_x xtok_x xnm_x hown hK hP hD hS 0 rfl rfl 6 (by decide) (hts _ (xfl_x 6 (by decide))) (fun _ h9 => h9) rfl hin rfl (xtok_x 6 (by decide)) rfl rfl (Nat.le_of_ble_eq_true rfl) d_x_init_38.1 (fun H locs hP hD hS => ?_)
  have hP : va_P D classes [(h0, .inr (0, [.int 0, .int 0, .ref q2, .ref q3, .ref q4, .ref q5, .ref q6, .null, .null, .int 0, .int 0, .null, .int 0, .null, .null, .null, .null, .null, .int 0, .int 0, .int 0, .null, .int 0, .int 0])), (q2, .inl (c2, 5, .inl (fun _ => 0))), (q3, .inl (c3, 5, .inl (fun _ => 0))), (q4, .inl (c4, 5, .inl (fun _ => 0))), (q5, .inl (c5, 30, .inl (fun _ => 0))), (q6, .inl (c6, 30, .inl (fun _ => 0)))] H := hP
  have hD : va_D A [(h0, .inr (0, [.int 0, .int 0, .ref q2, .ref q3, .ref q4, .ref q5, .ref q6, .null, .null, .int 0, .int 0, .null, .int 0, .null, .null, .null, .null, .null, .int 0, .int 0, .int 0, .null, .int 0, .int 0])), (q2, .inl (c2, 5, .inl (fun _ => 0))), (q3, .inl (c3, 5, .inl (fun _ => 0))), (q4, .inl (c4, 5, .inl (fun _ => 0))), (q5, .inl (c5, 30, .inl (fun _ => 0))), (q6, .inl (c6, 30, .inl (fun _ => 0)))] := hD
  refine lv_aload_n hx hb d_x_init_41.1 rfl (lv_at hl 0 rfl) ?_
  refine lv_ldc hx hb hown (hts _ tb_cx26) d_x_init_42.1 ?_
  refine va_newa (atype := .short) (ty := .short) (a0 := (61000, .inl (fun _ => 0))) hx hb (hts _ tb_ashort) rfl hK hP hD hS hA (fun _ => rfl) (by decide) (by decide) (by decide) (Nat.le_of_ble_eq_true rfl) (Nat.le_of_ble_eq_true rfl) d_x_init_44.1 (fun q7 c7 H hK hP hD hS => ?_)
  have hK : va_K D classes [(c2, .int), (c3, .int), (c4, .int), (c5, .byte), (c6, .byte), (c7, .short)] s := hK
  have hP : va_P D classes [(h0, .inr (0, [.int 0, .int 0, .ref q2, .ref q3, .ref q4, .ref q5, .ref q6, .null, .null, .int 0, .int 0, .null, .int 0, .null, .null, .null, .null, .null, .int 0, .int 0, .int 0, .null, .int 0, .int 0])), (q2, .inl (c2, 5, .inl (fun _ => 0))), (q3, .inl (c3, 5, .inl (fun _ => 0))), (q4, .inl (c4, 5, .inl (fun _ => 0))), (q5, .inl (c5, 30, .inl (fun _ => 0))), (q6, .inl (c6, 30, .inl (fun _ => 0))), (q7, .inl (c7, 61000, .inl (fun _ => 0)))] H := hP
  have hD : va_D A [(h0, .inr (0, [.int 0, .int 0, .ref q2, .ref q3, .ref q4, .ref q5, .ref q6, .null, .null, .int 0, .int 0, .null, .int 0, .null, .null, .null, .null, .null, .int 0, .int 0, .int 0, .null, .int 0, .int 0])), (q2, .inl (c2, 5, .inl (fun _ => 0))), (q3, .inl (c3, 5, .inl (fun _ => 0))), (q4, .inl (c4, 5, .inl (fun _ => 0))), (q5, .inl (c5, 30, .inl (fun _ => 0))), (q6, .inl (c6, 30, .inl (fun _ => 0))), (q7, .inl (c7, 61000, .inl (fun _ => 0)))] := hD
  refine W.widen (k := 6) (n := 61075) (by decide) (by decide) ?_
  refine va_putF (ci := 0) (v := .ref q7) (C := "CoverRounds") (T := F_x) (N := 24) hx hb hts xin_x t_x xtok_x xnm_x hown hK hP hD hS 0 rfl rfl 7 (by decide) (hts _ (xfl_x 7 (by decide))) (fun _ h9 => h9) rfl hin rfl (xtok_x 7 (by decide)) rfl rfl (Nat.le_of_ble_eq_true rfl) d_x_init_46.1 (fun H locs hP hD hS => ?_)
  have hP : va_P D classes [(h0, .inr (0, [.int 0, .int 0, .ref q2, .ref q3, .ref q4, .ref q5, .ref q6, .ref q7, .null, .int 0, .int 0, .null, .int 0, .null, .null, .null, .null, .null, .int 0, .int 0, .int 0, .null, .int 0, .int 0])), (q2, .inl (c2, 5, .inl (fun _ => 0))), (q3, .inl (c3, 5, .inl (fun _ => 0))), (q4, .inl (c4, 5, .inl (fun _ => 0))), (q5, .inl (c5, 30, .inl (fun _ => 0))), (q6, .inl (c6, 30, .inl (fun _ => 0))), (q7, .inl (c7, 61000, .inl (fun _ => 0)))] H := hP
  have hD : va_D A [(h0, .inr (0, [.int 0, .int 0, .ref q2, .ref q3, .ref q4, .ref q5, .ref q6, .ref q7, .null, .int 0, .int 0, .null, .int 0, .null, .null, .null, .null, .null, .int 0, .int 0, .int 0, .null, .int 0, .int 0])), (q2, .inl (c2, 5, .inl (fun _ => 0))), (q3, .inl (c3, 5, .inl (fun _ => 0))), (q4, .inl (c4, 5, .inl (fun _ => 0))), (q5, .inl (c5, 30, .inl (fun _ => 0))), (q6, .inl (c6, 30, .inl (fun _ => 0))), (q7, .inl (c7, 61000, .inl (fun _ => 0)))] := hD
  refine lv_aload_n hx hb d_x_init_49.1 rfl (lv_at hl 0 rfl) ?_
  refine lv_bipush (v := 61) hx hb d_x_init_50.1 (by decide) ?_
  refine va_newa (atype := .int) (ty := .int) (a0 := (61, .inl (fun _ => 0))) hx hb (hts _ tb_aint) rfl hK hP hD hS hA (fun _ => rfl) (by decide) (by decide) (by decide) (Nat.le_of_ble_eq_true rfl) (Nat.le_of_ble_eq_true rfl) d_x_init_52.1 (fun q8 c8 H hK hP hD hS => ?_)
  have hK : va_K D classes [(c2, .int), (c3, .int), (c4, .int), (c5, .byte), (c6, .byte), (c7, .short), (c8, .int)] s := hK
  have hP : va_P D classes [(h0, .inr (0, [.int 0, .int 0, .ref q2, .ref q3, .ref q4, .ref q5, .ref q6, .ref q7, .null, .int 0, .int 0, .null, .int 0, .null, .null, .null, .null, .null, .int 0, .int 0, .int 0, .null, .int 0, .int 0])), (q2, .inl (c2, 5, .inl (fun _ => 0))), (q3, .inl (c3, 5, .inl (fun _ => 0))), (q4, .inl (c4, 5, .inl (fun _ => 0))), (q5, .inl (c5, 30, .inl (fun _ => 0))), (q6, .inl (c6, 30, .inl (fun _ => 0))), (q7, .inl (c7, 61000, .inl (fun _ => 0))), (q8, .inl (c8, 61, .inl (fun _ => 0)))] H := hP
  have hD : va_D A [(h0, .inr (0, [.int 0, .int 0, .ref q2, .ref q3, .ref q4, .ref q5, .ref q6, .ref q7, .null, .int 0, .int 0, .null, .int 0, .null, .null, .null, .null, .null, .int 0, .int 0, .int 0, .null, .int 0, .int 0])), (q2, .inl (c2, 5, .inl (fun _ => 0))), (q3, .inl (c3, 5, .inl (fun _ => 0))), (q4, .inl (c4, 5, .inl (fun _ => 0))), (q5, .inl (c5, 30, .inl (fun _ => 0))), (q6, .inl (c6, 30, .inl (fun _ => 0))), (q7, .inl (c7, 61000, .inl (fun _ => 0))), (q8, .inl (c8, 61, .inl (fun _ => 0)))] := hD
  refine W.widen (k := 7) (n := 61136) (by decide) (by decide) ?_
  refine va_putF (ci := 0) (v := .ref q8) (C := "CoverRounds") (T := F_x) (N := 24) hx hb hts xin_x t_x xtok_x xnm_x hown hK hP hD hS 0 rfl rfl 8 (by decide) (hts _ (xfl_x 8 (by decide))) (fun _ h9 => h9) rfl hin rfl (xtok_x 8 (by decide)) rfl rfl (Nat.le_of_ble_eq_true rfl) d_x_init_54.1 (fun H locs hP hD hS => ?_)
  have hP : va_P D classes [(h0, .inr (0, [.int 0, .int 0, .ref q2, .ref q3, .ref q4, .ref q5, .ref q6, .ref q7, .ref q8, .int 0, .int 0, .null, .int 0, .null, .null, .null, .null, .null, .int 0, .int 0, .int 0, .null, .int 0, .int 0])), (q2, .inl (c2, 5, .inl (fun _ => 0))), (q3, .inl (c3, 5, .inl (fun _ => 0))), (q4, .inl (c4, 5, .inl (fun _ => 0))), (q5, .inl (c5, 30, .inl (fun _ => 0))), (q6, .inl (c6, 30, .inl (fun _ => 0))), (q7, .inl (c7, 61000, .inl (fun _ => 0))), (q8, .inl (c8, 61, .inl (fun _ => 0)))] H := hP
  have hD : va_D A [(h0, .inr (0, [.int 0, .int 0, .ref q2, .ref q3, .ref q4, .ref q5, .ref q6, .ref q7, .ref q8, .int 0, .int 0, .null, .int 0, .null, .null, .null, .null, .null, .int 0, .int 0, .int 0, .null, .int 0, .int 0])), (q2, .inl (c2, 5, .inl (fun _ => 0))), (q3, .inl (c3, 5, .inl (fun _ => 0))), (q4, .inl (c4, 5, .inl (fun _ => 0))), (q5, .inl (c5, 30, .inl (fun _ => 0))), (q6, .inl (c6, 30, .inl (fun _ => 0))), (q7, .inl (c7, 61000, .inl (fun _ => 0))), (q8, .inl (c8, 61, .inl (fun _ => 0)))] := hD
  refine lv_aload_n hx hb d_x_init_57.1 rfl (lv_at hl 0 rfl) ?_
  refine lv_iconst (v := (-1)) hx hb d_x_init_58.1 (by decide) ?_
  refine va_put (ci := 0) (v := .int (-1)) (C := "CoverRounds") (T := F_x) (N := 24) hx hb hts xin_x t_x xtok_x xnm_x hown hK hP hD hS 0 rfl rfl 9 (by decide) (hts _ (xfl_x 9 (by decide))) (fun _ h9 => h9) rfl (xtok_x 9 (by decide)) rfl rfl (Nat.le_of_ble_eq_true rfl) d_x_init_59.1 (fun H locs hP hD hS => ?_)
  have hP : va_P D classes [(h0, .inr (0, [.int 0, .int 0, .ref q2, .ref q3, .ref q4, .ref q5, .ref q6, .ref q7, .ref q8, .int (-1), .int 0, .null, .int 0, .null, .null, .null, .null, .null, .int 0, .int 0, .int 0, .null, .int 0, .int 0])), (q2, .inl (c2, 5, .inl (fun _ => 0))), (q3, .inl (c3, 5, .inl (fun _ => 0))), (q4, .inl (c4, 5, .inl (fun _ => 0))), (q5, .inl (c5, 30, .inl (fun _ => 0))), (q6, .inl (c6, 30, .inl (fun _ => 0))), (q7, .inl (c7, 61000, .inl (fun _ => 0))), (q8, .inl (c8, 61, .inl (fun _ => 0)))] H := hP
  have hD : va_D A [(h0, .inr (0, [.int 0, .int 0, .ref q2, .ref q3, .ref q4, .ref q5, .ref q6, .ref q7, .ref q8, .int (-1), .int 0, .null, .int 0, .null, .null, .null, .null, .null, .int 0, .int 0, .int 0, .null, .int 0, .int 0])), (q2, .inl (c2, 5, .inl (fun _ => 0))), (q3, .inl (c3, 5, .inl (fun _ => 0))), (q4, .inl (c4, 5, .inl (fun _ => 0))), (q5, .inl (c5, 30, .inl (fun _ => 0))), (q6, .inl (c6, 30, .inl (fun _ => 0))), (q7, .inl (c7, 61000, .inl (fun _ => 0))), (q8, .inl (c8, 61, .inl (fun _ => 0)))] := hD
  refine lv_aload_n hx hb d_x_init_62.1 rfl (lv_at hl 0 rfl) ?_
  refine lv_iconst (v := (-1)) hx hb d_x_init_63.1 (by decide) ?_
  refine va_put (ci := 0) (v := .int (-1)) (C := "CoverRounds") (T := F_x) (N := 24) hx hb hts xin_x t_x xtok_x xnm_x hown hK hP hD hS 0 rfl rfl 10 (by decide) (hts _ (xfl_x 10 (by decide))) (fun _ h9 => h9) rfl (xtok_x 10 (by decide)) rfl rfl (Nat.le_of_ble_eq_true rfl) d_x_init_64.1 (fun H locs hP hD hS => ?_)
  have hP : va_P D classes [(h0, .inr (0, [.int 0, .int 0, .ref q2, .ref q3, .ref q4, .ref q5, .ref q6, .ref q7, .ref q8, .int (-1), .int (-1), .null, .int 0, .null, .null, .null, .null, .null, .int 0, .int 0, .int 0, .null, .int 0, .int 0])), (q2, .inl (c2, 5, .inl (fun _ => 0))), (q3, .inl (c3, 5, .inl (fun _ => 0))), (q4, .inl (c4, 5, .inl (fun _ => 0))), (q5, .inl (c5, 30, .inl (fun _ => 0))), (q6, .inl (c6, 30, .inl (fun _ => 0))), (q7, .inl (c7, 61000, .inl (fun _ => 0))), (q8, .inl (c8, 61, .inl (fun _ => 0)))] H := hP
  have hD : va_D A [(h0, .inr (0, [.int 0, .int 0, .ref q2, .ref q3, .ref q4, .ref q5, .ref q6, .ref q7, .ref q8, .int (-1), .int (-1), .null, .int 0, .null, .null, .null, .null, .null, .int 0, .int 0, .int 0, .null, .int 0, .int 0])), (q2, .inl (c2, 5, .inl (fun _ => 0))), (q3, .inl (c3, 5, .inl (fun _ => 0))), (q4, .inl (c4, 5, .inl (fun _ => 0))), (q5, .inl (c5, 30, .inl (fun _ => 0))), (q6, .inl (c6, 30, .inl (fun _ => 0))), (q7, .inl (c7, 61000, .inl (fun _ => 0))), (q8, .inl (c8, 61, .inl (fun _ => 0)))] := hD
  refine lv_aload_n hx hb d_x_init_67.1 rfl (lv_at hl 0 rfl) ?_
  refine lv_sipush (v := 7010) hx hb d_x_init_68.1 (by decide) ?_
  refine va_newa (atype := .short) (ty := .short) (a0 := (7010, .inl (fun _ => 0))) hx hb (hts _ tb_ashort) rfl hK hP hD hS hA (fun _ => rfl) (by decide) (by decide) (by decide) (Nat.le_of_ble_eq_true rfl) (Nat.le_of_ble_eq_true rfl) d_x_init_71.1 (fun q11 c11 H hK hP hD hS => ?_)
  have hK : va_K D classes [(c2, .int), (c3, .int), (c4, .int), (c5, .byte), (c6, .byte), (c7, .short), (c8, .int), (c11, .short)] s := hK
  have hP : va_P D classes [(h0, .inr (0, [.int 0, .int 0, .ref q2, .ref q3, .ref q4, .ref q5, .ref q6, .ref q7, .ref q8, .int (-1), .int (-1), .null, .int 0, .null, .null, .null, .null, .null, .int 0, .int 0, .int 0, .null, .int 0, .int 0])), (q2, .inl (c2, 5, .inl (fun _ => 0))), (q3, .inl (c3, 5, .inl (fun _ => 0))), (q4, .inl (c4, 5, .inl (fun _ => 0))), (q5, .inl (c5, 30, .inl (fun _ => 0))), (q6, .inl (c6, 30, .inl (fun _ => 0))), (q7, .inl (c7, 61000, .inl (fun _ => 0))), (q8, .inl (c8, 61, .inl (fun _ => 0))), (q11, .inl (c11, 7010, .inl (fun _ => 0)))] H := hP
  have hD : va_D A [(h0, .inr (0, [.int 0, .int 0, .ref q2, .ref q3, .ref q4, .ref q5, .ref q6, .ref q7, .ref q8, .int (-1), .int (-1), .null, .int 0, .null, .null, .null, .null, .null, .int 0, .int 0, .int 0, .null, .int 0, .int 0])), (q2, .inl (c2, 5, .inl (fun _ => 0))), (q3, .inl (c3, 5, .inl (fun _ => 0))), (q4, .inl (c4, 5, .inl (fun _ => 0))), (q5, .inl (c5, 30, .inl (fun _ => 0))), (q6, .inl (c6, 30, .inl (fun _ => 0))), (q7, .inl (c7, 61000, .inl (fun _ => 0))), (q8, .inl (c8, 61, .inl (fun _ => 0))), (q11, .inl (c11, 7010, .inl (fun _ => 0)))] := hD
  refine W.widen (k := 8) (n := 68146) (by decide) (by decide) ?_
  refine va_putF (ci := 0) (v := .ref q11) (C := "CoverRounds") (T := F_x) (N := 24) hx hb hts xin_x t_x xtok_x xnm_x hown hK hP hD hS 0 rfl rfl 11 (by decide) (hts _ (xfl_x 11 (by decide))) (fun _ h9 => h9) rfl hin rfl (xtok_x 11 (by decide)) rfl rfl (Nat.le_of_ble_eq_true rfl) d_x_init_73.1 (fun H locs hP hD hS => ?_)
  have hP : va_P D classes [(h0, .inr (0, [.int 0, .int 0, .ref q2, .ref q3, .ref q4, .ref q5, .ref q6, .ref q7, .ref q8, .int (-1), .int (-1), .ref q11, .int 0, .null, .null, .null, .null, .null, .int 0, .int 0, .int 0, .null, .int 0, .int 0])), (q2, .inl (c2, 5, .inl (fun _ => 0))), (q3, .inl (c3, 5, .inl (fun _ => 0))), (q4, .inl (c4, 5, .inl (fun _ => 0))), (q5, .inl (c5, 30, .inl (fun _ => 0))), (q6, .inl (c6, 30, .inl (fun _ => 0))), (q7, .inl (c7, 61000, .inl (fun _ => 0))), (q8, .inl (c8, 61, .inl (fun _ => 0))), (q11, .inl (c11, 7010, .inl (fun _ => 0)))] H := hP
  have hD : va_D A [(h0, .inr (0, [.int 0, .int 0, .ref q2, .ref q3, .ref q4, .ref q5, .ref q6, .ref q7, .ref q8, .int (-1), .int (-1), .ref q11, .int 0, .null, .null, .null, .null, .null, .int 0, .int 0, .int 0, .null, .int 0, .int 0])), (q2, .inl (c2, 5, .inl (fun _ => 0))), (q3, .inl (c3, 5, .inl (fun _ => 0))), (q4, .inl (c4, 5, .inl (fun _ => 0))), (q5, .inl (c5, 30, .inl (fun _ => 0))), (q6, .inl (c6, 30, .inl (fun _ => 0))), (q7, .inl (c7, 61000, .inl (fun _ => 0))), (q8, .inl (c8, 61, .inl (fun _ => 0))), (q11, .inl (c11, 7010, .inl (fun _ => 0)))] := hD
  refine lv_aload_n hx hb d_x_init_76.1 rfl (lv_at hl 0 rfl) ?_
  refine lv_iconst (v := 5) hx hb d_x_init_77.1 (by decide) ?_
  refine va_newa (atype := .int) (ty := .int) (a0 := (5, .inl (fun _ => 0))) hx hb (hts _ tb_aint) rfl hK hP hD hS hA (fun _ => rfl) (by decide) (by decide) (by decide) (Nat.le_of_ble_eq_true rfl) (Nat.le_of_ble_eq_true rfl) d_x_init_78.1 (fun q13 c13 H hK hP hD hS => ?_)
  have hK : va_K D classes [(c2, .int), (c3, .int), (c4, .int), (c5, .byte), (c6, .byte), (c7, .short), (c8, .int), (c11, .short), (c13, .int)] s := hK
  have hP : va_P D classes [(h0, .inr (0, [.int 0, .int 0, .ref q2, .ref q3, .ref q4, .ref q5, .ref q6, .ref q7, .ref q8, .int (-1), .int (-1), .ref q11, .int 0, .null, .null, .null, .null, .null, .int 0, .int 0, .int 0, .null, .int 0, .int 0])), (q2, .inl (c2, 5, .inl (fun _ => 0))), (q3, .inl (c3, 5, .inl (fun _ => 0))), (q4, .inl (c4, 5, .inl (fun _ => 0))), (q5, .inl (c5, 30, .inl (fun _ => 0))), (q6, .inl (c6, 30, .inl (fun _ => 0))), (q7, .inl (c7, 61000, .inl (fun _ => 0))), (q8, .inl (c8, 61, .inl (fun _ => 0))), (q11, .inl (c11, 7010, .inl (fun _ => 0))), (q13, .inl (c13, 5, .inl (fun _ => 0)))] H := hP
  have hD : va_D A [(h0, .inr (0, [.int 0, .int 0, .ref q2, .ref q3, .ref q4, .ref q5, .ref q6, .ref q7, .ref q8, .int (-1), .int (-1), .ref q11, .int 0, .null, .null, .null, .null, .null, .int 0, .int 0, .int 0, .null, .int 0, .int 0])), (q2, .inl (c2, 5, .inl (fun _ => 0))), (q3, .inl (c3, 5, .inl (fun _ => 0))), (q4, .inl (c4, 5, .inl (fun _ => 0))), (q5, .inl (c5, 30, .inl (fun _ => 0))), (q6, .inl (c6, 30, .inl (fun _ => 0))), (q7, .inl (c7, 61000, .inl (fun _ => 0))), (q8, .inl (c8, 61, .inl (fun _ => 0))), (q11, .inl (c11, 7010, .inl (fun _ => 0))), (q13, .inl (c13, 5, .inl (fun _ => 0)))] := hD
  refine W.widen (k := 9) (n := 68151) (by decide) (by decide) ?_
  refine va_putF (ci := 0) (v := .ref q13) (C := "CoverRounds") (T := F_x) (N := 24) hx hb hts xin_x t_x xtok_x xnm_x hown hK hP hD hS 0 rfl rfl 13 (by decide) (hts _ (xfl_x 13 (by decide))) (fun _ h9 => h9) rfl hin rfl (xtok_x 13 (by decide)) rfl rfl (Nat.le_of_ble_eq_true rfl) d_x_init_80.1 (fun H locs hP hD hS => ?_)
  have hP : va_P D classes [(h0, .inr (0, [.int 0, .int 0, .ref q2, .ref q3, .ref q4, .ref q5, .ref q6, .ref q7, .ref q8, .int (-1), .int (-1), .ref q11, .int 0, .ref q13, .null, .null, .null, .null, .int 0, .int 0, .int 0, .null, .int 0, .int 0])), (q2, .inl (c2, 5, .inl (fun _ => 0))), (q3, .inl (c3, 5, .inl (fun _ => 0))), (q4, .inl (c4, 5, .inl (fun _ => 0))), (q5, .inl (c5, 30, .inl (fun _ => 0))), (q6, .inl (c6, 30, .inl (fun _ => 0))), (q7, .inl (c7, 61000, .inl (fun _ => 0))), (q8, .inl (c8, 61, .inl (fun _ => 0))), (q11, .inl (c11, 7010, .inl (fun _ => 0))), (q13, .inl (c13, 5, .inl (fun _ => 0)))] H := hP
  have hD : va_D A [(h0, .inr (0, [.int 0, .int 0, .ref q2, .ref q3, .ref q4, .ref q5, .ref q6, .ref q7, .ref q8, .int (-1), .int (-1), .ref q11, .int 0, .ref q13, .null, .null, .null, .null, .int 0, .int 0, .int 0, .null, .int 0, .int 0])), (q2, .inl (c2, 5, .inl (fun _ => 0))), (q3, .inl (c3, 5, .inl (fun _ => 0))), (q4, .inl (c4, 5, .inl (fun _ => 0))), (q5, .inl (c5, 30, .inl (fun _ => 0))), (q6, .inl (c6, 30, .inl (fun _ => 0))), (q7, .inl (c7, 61000, .inl (fun _ => 0))), (q8, .inl (c8, 61, .inl (fun _ => 0))), (q11, .inl (c11, 7010, .inl (fun _ => 0))), (q13, .inl (c13, 5, .inl (fun _ => 0)))] := hD
  refine lv_aload_n hx hb d_x_init_83.1 rfl (lv_at hl 0 rfl) ?_
  refine lv_iconst (v := 5) hx hb d_x_init_84.1 (by decide) ?_
  refine va_newa (atype := .int) (ty := .int) (a0 := (5, .inl (fun _ => 0))) hx hb (hts _ tb_aint) rfl hK hP hD hS hA (fun _ => rfl) (by decide) (by decide) (by decide) (Nat.le_of_ble_eq_true rfl) (Nat.le_of_ble_eq_true rfl) d_x_init_85.1 (fun q14 c14 H hK hP hD hS => ?_)
  have hK : va_K D classes [(c2, .int), (c3, .int), (c4, .int), (c5, .byte), (c6, .byte), (c7, .short), (c8, .int), (c11, .short), (c13, .int), (c14, .int)] s := hK
  have hP : va_P D classes [(h0, .inr (0, [.int 0, .int 0, .ref q2, .ref q3, .ref q4, .ref q5, .ref q6, .ref q7, .ref q8, .int (-1), .int (-1), .ref q11, .int 0, .ref q13, .null, .null, .null, .null, .int 0, .int 0, .int 0, .null, .int 0, .int 0])), (q2, .inl (c2, 5, .inl (fun _ => 0))), (q3, .inl (c3, 5, .inl (fun _ => 0))), (q4, .inl (c4, 5, .inl (fun _ => 0))), (q5, .inl (c5, 30, .inl (fun _ => 0))), (q6, .inl (c6, 30, .inl (fun _ => 0))), (q7, .inl (c7, 61000, .inl (fun _ => 0))), (q8, .inl (c8, 61, .inl (fun _ => 0))), (q11, .inl (c11, 7010, .inl (fun _ => 0))), (q13, .inl (c13, 5, .inl (fun _ => 0))), (q14, .inl (c14, 5, .inl (fun _ => 0)))] H := hP
  have hD : va_D A [(h0, .inr (0, [.int 0, .int 0, .ref q2, .ref q3, .ref q4, .ref q5, .ref q6, .ref q7, .ref q8, .int (-1), .int (-1), .ref q11, .int 0, .ref q13, .null, .null, .null, .null, .int 0, .int 0, .int 0, .null, .int 0, .int 0])), (q2, .inl (c2, 5, .inl (fun _ => 0))), (q3, .inl (c3, 5, .inl (fun _ => 0))), (q4, .inl (c4, 5, .inl (fun _ => 0))), (q5, .inl (c5, 30, .inl (fun _ => 0))), (q6, .inl (c6, 30, .inl (fun _ => 0))), (q7, .inl (c7, 61000, .inl (fun _ => 0))), (q8, .inl (c8, 61, .inl (fun _ => 0))), (q11, .inl (c11, 7010, .inl (fun _ => 0))), (q13, .inl (c13, 5, .inl (fun _ => 0))), (q14, .inl (c14, 5, .inl (fun _ => 0)))] := hD
  refine W.widen (k := 10) (n := 68156) (by decide) (by decide) ?_
  refine va_putF (ci := 0) (v := .ref q14) (C := "CoverRounds") (T := F_x) (N := 24) hx hb hts xin_x t_x xtok_x xnm_x hown hK hP hD hS 0 rfl rfl 14 (by decide) (hts _ (xfl_x 14 (by decide))) (fun _ h9 => h9) rfl hin rfl (xtok_x 14 (by decide)) rfl rfl (Nat.le_of_ble_eq_true rfl) d_x_init_87.1 (fun H locs hP hD hS => ?_)
  have hP : va_P D classes [(h0, .inr (0, [.int 0, .int 0, .ref q2, .ref q3, .ref q4, .ref q5, .ref q6, .ref q7, .ref q8, .int (-1), .int (-1), .ref q11, .int 0, .ref q13, .ref q14, .null, .null, .null, .int 0, .int 0, .int 0, .null, .int 0, .int 0])), (q2, .inl (c2, 5, .inl (fun _ => 0))), (q3, .inl (c3, 5, .inl (fun _ => 0))), (q4, .inl (c4, 5, .inl (fun _ => 0))), (q5, .inl (c5, 30, .inl (fun _ => 0))), (q6, .inl (c6, 30, .inl (fun _ => 0))), (q7, .inl (c7, 61000, .inl (fun _ => 0))), (q8, .inl (c8, 61, .inl (fun _ => 0))), (q11, .inl (c11, 7010, .inl (fun _ => 0))), (q13, .inl (c13, 5, .inl (fun _ => 0))), (q14, .inl (c14, 5, .inl (fun _ => 0)))] H := hP
  have hD : va_D A [(h0, .inr (0, [.int 0, .int 0, .ref q2, .ref q3, .ref q4, .ref q5, .ref q6, .ref q7, .ref q8, .int (-1), .int (-1), .ref q11, .int 0, .ref q13, .ref q14, .null, .null, .null, .int 0, .int 0, .int 0, .null, .int 0, .int 0])), (q2, .inl (c2, 5, .inl (fun _ => 0))), (q3, .inl (c3, 5, .inl (fun _ => 0))), (q4, .inl (c4, 5, .inl (fun _ => 0))), (q5, .inl (c5, 30, .inl (fun _ => 0))), (q6, .inl (c6, 30, .inl (fun _ => 0))), (q7, .inl (c7, 61000, .inl (fun _ => 0))), (q8, .inl (c8, 61, .inl (fun _ => 0))), (q11, .inl (c11, 7010, .inl (fun _ => 0))), (q13, .inl (c13, 5, .inl (fun _ => 0))), (q14, .inl (c14, 5, .inl (fun _ => 0)))] := hD
  refine lv_aload_n hx hb d_x_init_90.1 rfl (lv_at hl 0 rfl) ?_
  refine lv_bipush (v := 60) hx hb d_x_init_91.1 (by decide) ?_
  refine va_newa (atype := .byte) (ty := .byte) (a0 := (60, .inl (fun _ => 0))) hx hb (hts _ tb_abyte) rfl hK hP hD hS hA (fun _ => rfl) (by decide) (by decide) (by decide) (Nat.le_of_ble_eq_true rfl) (Nat.le_of_ble_eq_true rfl) d_x_init_93.1 (fun q15 c15 H hK hP hD hS => ?_)
  have hK : va_K D classes [(c2, .int), (c3, .int), (c4, .int), (c5, .byte), (c6, .byte), (c7, .short), (c8, .int), (c11, .short), (c13, .int), (c14, .int), (c15, .byte)] s := hK
  have hP : va_P D classes [(h0, .inr (0, [.int 0, .int 0, .ref q2, .ref q3, .ref q4, .ref q5, .ref q6, .ref q7, .ref q8, .int (-1), .int (-1), .ref q11, .int 0, .ref q13, .ref q14, .null, .null, .null, .int 0, .int 0, .int 0, .null, .int 0, .int 0])), (q2, .inl (c2, 5, .inl (fun _ => 0))), (q3, .inl (c3, 5, .inl (fun _ => 0))), (q4, .inl (c4, 5, .inl (fun _ => 0))), (q5, .inl (c5, 30, .inl (fun _ => 0))), (q6, .inl (c6, 30, .inl (fun _ => 0))), (q7, .inl (c7, 61000, .inl (fun _ => 0))), (q8, .inl (c8, 61, .inl (fun _ => 0))), (q11, .inl (c11, 7010, .inl (fun _ => 0))), (q13, .inl (c13, 5, .inl (fun _ => 0))), (q14, .inl (c14, 5, .inl (fun _ => 0))), (q15, .inl (c15, 60, .inl (fun _ => 0)))] H := hP
  have hD : va_D A [(h0, .inr (0, [.int 0, .int 0, .ref q2, .ref q3, .ref q4, .ref q5, .ref q6, .ref q7, .ref q8, .int (-1), .int (-1), .ref q11, .int 0, .ref q13, .ref q14, .null, .null, .null, .int 0, .int 0, .int 0, .null, .int 0, .int 0])), (q2, .inl (c2, 5, .inl (fun _ => 0))), (q3, .inl (c3, 5, .inl (fun _ => 0))), (q4, .inl (c4, 5, .inl (fun _ => 0))), (q5, .inl (c5, 30, .inl (fun _ => 0))), (q6, .inl (c6, 30, .inl (fun _ => 0))), (q7, .inl (c7, 61000, .inl (fun _ => 0))), (q8, .inl (c8, 61, .inl (fun _ => 0))), (q11, .inl (c11, 7010, .inl (fun _ => 0))), (q13, .inl (c13, 5, .inl (fun _ => 0))), (q14, .inl (c14, 5, .inl (fun _ => 0))), (q15, .inl (c15, 60, .inl (fun _ => 0)))] := hD
  refine W.widen (k := 11) (n := 68216) (by decide) (by decide) ?_
  refine va_putF (ci := 0) (v := .ref q15) (C := "CoverRounds") (T := F_x) (N := 24) hx hb hts xin_x t_x xtok_x xnm_x hown hK hP hD hS 0 rfl rfl 15 (by decide) (hts _ (xfl_x 15 (by decide))) (fun _ h9 => h9) rfl hin rfl (xtok_x 15 (by decide)) rfl rfl (Nat.le_of_ble_eq_true rfl) d_x_init_95.1 (fun H locs hP hD hS => ?_)
  have hP : va_P D classes [(h0, .inr (0, [.int 0, .int 0, .ref q2, .ref q3, .ref q4, .ref q5, .ref q6, .ref q7, .ref q8, .int (-1), .int (-1), .ref q11, .int 0, .ref q13, .ref q14, .ref q15, .null, .null, .int 0, .int 0, .int 0, .null, .int 0, .int 0])), (q2, .inl (c2, 5, .inl (fun _ => 0))), (q3, .inl (c3, 5, .inl (fun _ => 0))), (q4, .inl (c4, 5, .inl (fun _ => 0))), (q5, .inl (c5, 30, .inl (fun _ => 0))), (q6, .inl (c6, 30, .inl (fun _ => 0))), (q7, .inl (c7, 61000, .inl (fun _ => 0))), (q8, .inl (c8, 61, .inl (fun _ => 0))), (q11, .inl (c11, 7010, .inl (fun _ => 0))), (q13, .inl (c13, 5, .inl (fun _ => 0))), (q14, .inl (c14, 5, .inl (fun _ => 0))), (q15, .inl (c15, 60, .inl (fun _ => 0)))] H := hP
  have hD : va_D A [(h0, .inr (0, [.int 0, .int 0, .ref q2, .ref q3, .ref q4, .ref q5, .ref q6, .ref q7, .ref q8, .int (-1), .int (-1), .ref q11, .int 0, .ref q13, .ref q14, .ref q15, .null, .null, .int 0, .int 0, .int 0, .null, .int 0, .int 0])), (q2, .inl (c2, 5, .inl (fun _ => 0))), (q3, .inl (c3, 5, .inl (fun _ => 0))), (q4, .inl (c4, 5, .inl (fun _ => 0))), (q5, .inl (c5, 30, .inl (fun _ => 0))), (q6, .inl (c6, 30, .inl (fun _ => 0))), (q7, .inl (c7, 61000, .inl (fun _ => 0))), (q8, .inl (c8, 61, .inl (fun _ => 0))), (q11, .inl (c11, 7010, .inl (fun _ => 0))), (q13, .inl (c13, 5, .inl (fun _ => 0))), (q14, .inl (c14, 5, .inl (fun _ => 0))), (q15, .inl (c15, 60, .inl (fun _ => 0)))] := hD
  refine lv_aload_n hx hb d_x_init_98.1 rfl (lv_at hl 0 rfl) ?_
  refine lv_sipush (v := 5000) hx hb d_x_init_99.1 (by decide) ?_
  refine va_newa (atype := .int) (ty := .int) (a0 := (5000, .inl (fun _ => 0))) hx hb (hts _ tb_aint) rfl hK hP hD hS hA (fun _ => rfl) (by decide) (by decide) (by decide) (Nat.le_of_ble_eq_true rfl) (Nat.le_of_ble_eq_true rfl) d_x_init_102.1 (fun q16 c16 H hK hP hD hS => ?_)
  have hK : va_K D classes [(c2, .int), (c3, .int), (c4, .int), (c5, .byte), (c6, .byte), (c7, .short), (c8, .int), (c11, .short), (c13, .int), (c14, .int), (c15, .byte), (c16, .int)] s := hK
  have hP : va_P D classes [(h0, .inr (0, [.int 0, .int 0, .ref q2, .ref q3, .ref q4, .ref q5, .ref q6, .ref q7, .ref q8, .int (-1), .int (-1), .ref q11, .int 0, .ref q13, .ref q14, .ref q15, .null, .null, .int 0, .int 0, .int 0, .null, .int 0, .int 0])), (q2, .inl (c2, 5, .inl (fun _ => 0))), (q3, .inl (c3, 5, .inl (fun _ => 0))), (q4, .inl (c4, 5, .inl (fun _ => 0))), (q5, .inl (c5, 30, .inl (fun _ => 0))), (q6, .inl (c6, 30, .inl (fun _ => 0))), (q7, .inl (c7, 61000, .inl (fun _ => 0))), (q8, .inl (c8, 61, .inl (fun _ => 0))), (q11, .inl (c11, 7010, .inl (fun _ => 0))), (q13, .inl (c13, 5, .inl (fun _ => 0))), (q14, .inl (c14, 5, .inl (fun _ => 0))), (q15, .inl (c15, 60, .inl (fun _ => 0))), (q16, .inl (c16, 5000, .inl (fun _ => 0)))] H := hP
  have hD : va_D A [(h0, .inr (0, [.int 0, .int 0, .ref q2, .ref q3, .ref q4, .ref q5, .ref q6, .ref q7, .ref q8, .int (-1), .int (-1), .ref q11, .int 0, .ref q13, .ref q14, .ref q15, .null, .null, .int 0, .int 0, .int 0, .null, .int 0, .int 0])), (q2, .inl (c2, 5, .inl (fun _ => 0))), (q3, .inl (c3, 5, .inl (fun _ => 0))), (q4, .inl (c4, 5, .inl (fun _ => 0))), (q5, .inl (c5, 30, .inl (fun _ => 0))), (q6, .inl (c6, 30, .inl (fun _ => 0))), (q7, .inl (c7, 61000, .inl (fun _ => 0))), (q8, .inl (c8, 61, .inl (fun _ => 0))), (q11, .inl (c11, 7010, .inl (fun _ => 0))), (q13, .inl (c13, 5, .inl (fun _ => 0))), (q14, .inl (c14, 5, .inl (fun _ => 0))), (q15, .inl (c15, 60, .inl (fun _ => 0))), (q16, .inl (c16, 5000, .inl (fun _ => 0)))] := hD
  refine W.widen (k := 12) (n := 73216) (by decide) (by decide) ?_
  refine va_putF (ci := 0) (v := .ref q16) (C := "CoverRounds") (T := F_x) (N := 24) hx hb hts xin_x t_x xtok_x xnm_x hown hK hP hD hS 0 rfl rfl 16 (by decide) (hts _ (xfl_x 16 (by decide))) (fun _ h9 => h9) rfl hin rfl (xtok_x 16 (by decide)) rfl rfl (Nat.le_of_ble_eq_true rfl) d_x_init_104.1 (fun H locs hP hD hS => ?_)
  have hP : va_P D classes [(h0, .inr (0, [.int 0, .int 0, .ref q2, .ref q3, .ref q4, .ref q5, .ref q6, .ref q7, .ref q8, .int (-1), .int (-1), .ref q11, .int 0, .ref q13, .ref q14, .ref q15, .ref q16, .null, .int 0, .int 0, .int 0, .null, .int 0, .int 0])), (q2, .inl (c2, 5, .inl (fun _ => 0))), (q3, .inl (c3, 5, .inl (fun _ => 0))), (q4, .inl (c4, 5, .inl (fun _ => 0))), (q5, .inl (c5, 30, .inl (fun _ => 0))), (q6, .inl (c6, 30, .inl (fun _ => 0))), (q7, .inl (c7, 61000, .inl (fun _ => 0))), (q8, .inl (c8, 61, .inl (fun _ => 0))), (q11, .inl (c11, 7010, .inl (fun _ => 0))), (q13, .inl (c13, 5, .inl (fun _ => 0))), (q14, .inl (c14, 5, .inl (fun _ => 0))), (q15, .inl (c15, 60, .inl (fun _ => 0))), (q16, .inl (c16, 5000, .inl (fun _ => 0)))] H := hP
  have hD : va_D A [(h0, .inr (0, [.int 0, .int 0, .ref q2, .ref q3, .ref q4, .ref q5, .ref q6, .ref q7, .ref q8, .int (-1), .int (-1), .ref q11, .int 0, .ref q13, .ref q14, .ref q15, .ref q16, .null, .int 0, .int 0, .int 0, .null, .int 0, .int 0])), (q2, .inl (c2, 5, .inl (fun _ => 0))), (q3, .inl (c3, 5, .inl (fun _ => 0))), (q4, .inl (c4, 5, .inl (fun _ => 0))), (q5, .inl (c5, 30, .inl (fun _ => 0))), (q6, .inl (c6, 30, .inl (fun _ => 0))), (q7, .inl (c7, 61000, .inl (fun _ => 0))), (q8, .inl (c8, 61, .inl (fun _ => 0))), (q11, .inl (c11, 7010, .inl (fun _ => 0))), (q13, .inl (c13, 5, .inl (fun _ => 0))), (q14, .inl (c14, 5, .inl (fun _ => 0))), (q15, .inl (c15, 60, .inl (fun _ => 0))), (q16, .inl (c16, 5000, .inl (fun _ => 0)))] := hD
  refine lv_aload_n hx hb d_x_init_107.1 rfl (lv_at hl 0 rfl) ?_
  refine lv_sipush (v := 1000) hx hb d_x_init_108.1 (by decide) ?_
  refine va_newa (atype := .short) (ty := .short) (a0 := (1000, .inl (fun _ => 0))) hx hb (hts _ tb_ashort) rfl hK hP hD hS hA (fun _ => rfl) (by decide) (by decide) (by decide) (Nat.le_of_ble_eq_true rfl) (Nat.le_of_ble_eq_true rfl) d_x_init_111.1 (fun q17 c17 H hK hP hD hS => ?_)
  have hK : va_K D classes [(c2, .int), (c3, .int), (c4, .int), (c5, .byte), (c6, .byte), (c7, .short), (c8, .int), (c11, .short), (c13, .int), (c14, .int), (c15, .byte), (c16, .int), (c17, .short)] s := hK
  have hP : va_P D classes [(h0, .inr (0, [.int 0, .int 0, .ref q2, .ref q3, .ref q4, .ref q5, .ref q6, .ref q7, .ref q8, .int (-1), .int (-1), .ref q11, .int 0, .ref q13, .ref q14, .ref q15, .ref q16, .null, .int 0, .int 0, .int 0, .null, .int 0, .int 0])), (q2, .inl (c2, 5, .inl (fun _ => 0))), (q3, .inl (c3, 5, .inl (fun _ => 0))), (q4, .inl (c4, 5, .inl (fun _ => 0))), (q5, .inl (c5, 30, .inl (fun _ => 0))), (q6, .inl (c6, 30, .inl (fun _ => 0))), (q7, .inl (c7, 61000, .inl (fun _ => 0))), (q8, .inl (c8, 61, .inl (fun _ => 0))), (q11, .inl (c11, 7010, .inl (fun _ => 0))), (q13, .inl (c13, 5, .inl (fun _ => 0))), (q14, .inl (c14, 5, .inl (fun _ => 0))), (q15, .inl (c15, 60, .inl (fun _ => 0))), (q16, .inl (c16, 5000, .inl (fun _ => 0))), (q17, .inl (c17, 1000, .inl (fun _ => 0)))] H := hP
  have hD : va_D A [(h0, .inr (0, [.int 0, .int 0, .ref q2, .ref q3, .ref q4, .ref q5, .ref q6, .ref q7, .ref q8, .int (-1), .int (-1), .ref q11, .int 0, .ref q13, .ref q14, .ref q15, .ref q16, .null, .int 0, .int 0, .int 0, .null, .int 0, .int 0])), (q2, .inl (c2, 5, .inl (fun _ => 0))), (q3, .inl (c3, 5, .inl (fun _ => 0))), (q4, .inl (c4, 5, .inl (fun _ => 0))), (q5, .inl (c5, 30, .inl (fun _ => 0))), (q6, .inl (c6, 30, .inl (fun _ => 0))), (q7, .inl (c7, 61000, .inl (fun _ => 0))), (q8, .inl (c8, 61, .inl (fun _ => 0))), (q11, .inl (c11, 7010, .inl (fun _ => 0))), (q13, .inl (c13, 5, .inl (fun _ => 0))), (q14, .inl (c14, 5, .inl (fun _ => 0))), (q15, .inl (c15, 60, .inl (fun _ => 0))), (q16, .inl (c16, 5000, .inl (fun _ => 0))), (q17, .inl (c17, 1000, .inl (fun _ => 0)))] := hD
  refine W.widen (k := 13) (n := 74216) (by decide) (by decide) ?_
  refine va_putF (ci := 0) (v := .ref q17) (C := "CoverRounds") (T := F_x) (N := 24) hx hb hts xin_x t_x xtok_x xnm_x hown hK hP hD hS 0 rfl rfl 17 (by decide) (hts _ (xfl_x 17 (by decide))) (fun _ h9 => h9) rfl hin rfl (xtok_x 17 (by decide)) rfl rfl (Nat.le_of_ble_eq_true rfl) d_x_init_113.1 (fun H locs hP hD hS => ?_)
  have hP : va_P D classes [(h0, .inr (0, [.int 0, .int 0, .ref q2, .ref q3, .ref q4, .ref q5, .ref q6, .ref q7, .ref q8, .int (-1), .int (-1), .ref q11, .int 0, .ref q13, .ref q14, .ref q15, .ref q16, .ref q17, .int 0, .int 0, .int 0, .null, .int 0, .int 0])), (q2, .inl (c2, 5, .inl (fun _ => 0))), (q3, .inl (c3, 5, .inl (fun _ => 0))), (q4, .inl (c4, 5, .inl (fun _ => 0))), (q5, .inl (c5, 30, .inl (fun _ => 0))), (q6, .inl (c6, 30, .inl (fun _ => 0))), (q7, .inl (c7, 61000, .inl (fun _ => 0))), (q8, .inl (c8, 61, .inl (fun _ => 0))), (q11, .inl (c11, 7010, .inl (fun _ => 0))), (q13, .inl (c13, 5, .inl (fun _ => 0))), (q14, .inl (c14, 5, .inl (fun _ => 0))), (q15, .inl (c15, 60, .inl (fun _ => 0))), (q16, .inl (c16, 5000, .inl (fun _ => 0))), (q17, .inl (c17, 1000, .inl (fun _ => 0)))] H := hP
  have hD : va_D A [(h0, .inr (0, [.int 0, .int 0, .ref q2, .ref q3, .ref q4, .ref q5, .ref q6, .ref q7, .ref q8, .int (-1), .int (-1), .ref q11, .int 0, .ref q13, .ref q14, .ref q15, .ref q16, .ref q17, .int 0, .int 0, .int 0, .null, .int 0, .int 0])), (q2, .inl (c2, 5, .inl (fun _ => 0))), (q3, .inl (c3, 5, .inl (fun _ => 0))), (q4, .inl (c4, 5, .inl (fun _ => 0))), (q5, .inl (c5, 30, .inl (fun _ => 0))), (q6, .inl (c6, 30, .inl (fun _ => 0))), (q7, .inl (c7, 61000, .inl (fun _ => 0))), (q8, .inl (c8, 61, .inl (fun _ => 0))), (q11, .inl (c11, 7010, .inl (fun _ => 0))), (q13, .inl (c13, 5, .inl (fun _ => 0))), (q14, .inl (c14, 5, .inl (fun _ => 0))), (q15, .inl (c15, 60, .inl (fun _ => 0))), (q16, .inl (c16, 5000, .inl (fun _ => 0))), (q17, .inl (c17, 1000, .inl (fun _ => 0)))] := hD
  refine lv_aload_n hx hb d_x_init_116.1 rfl (lv_at hl 0 rfl) ?_
  refine lv_iconst (v := (-1)) hx hb d_x_init_117.1 (by decide) ?_
  refine va_put (ci := 0) (v := .int (-1)) (C := "CoverRounds") (T := F_x) (N := 24) hx hb hts xin_x t_x xtok_x xnm_x hown hK hP hD hS 0 rfl rfl 20 (by decide) (hts _ (xfl_x 20 (by decide))) (fun _ h9 => h9) rfl (xtok_x 20 (by decide)) rfl rfl (Nat.le_of_ble_eq_true rfl) d_x_init_118.1 (fun H locs hP hD hS => ?_)
  have hP : va_P D classes [(h0, .inr (0, [.int 0, .int 0, .ref q2, .ref q3, .ref q4, .ref q5, .ref q6, .ref q7, .ref q8, .int (-1), .int (-1), .ref q11, .int 0, .ref q13, .ref q14, .ref q15, .ref q16, .ref q17, .int 0, .int 0, .int (-1), .null, .int 0, .int 0])), (q2, .inl (c2, 5, .inl (fun _ => 0))), (q3, .inl (c3, 5, .inl (fun _ => 0))), (q4, .inl (c4, 5, .inl (fun _ => 0))), (q5, .inl (c5, 30, .inl (fun _ => 0))), (q6, .inl (c6, 30, .inl (fun _ => 0))), (q7, .inl (c7, 61000, .inl (fun _ => 0))), (q8, .inl (c8, 61, .inl (fun _ => 0))), (q11, .inl (c11, 7010, .inl (fun _ => 0))), (q13, .inl (c13, 5, .inl (fun _ => 0))), (q14, .inl (c14, 5, .inl (fun _ => 0))), (q15, .inl (c15, 60, .inl (fun _ => 0))), (q16, .inl (c16, 5000, .inl (fun _ => 0))), (q17, .inl (c17, 1000, .inl (fun _ => 0)))] H := hP
  have hD : va_D A [(h0, .inr (0, [.int 0, .int 0, .ref q2, .ref q3, .ref q4, .ref q5, .ref q6, .ref q7, .ref q8, .int (-1), .int (-1), .ref q11, .int 0, .ref q13, .ref q14, .ref q15, .ref q16, .ref q17, .int 0, .int 0, .int (-1), .null, .int 0, .int 0])), (q2, .inl (c2, 5, .inl (fun _ => 0))), (q3, .inl (c3, 5, .inl (fun _ => 0))), (q4, .inl (c4, 5, .inl (fun _ => 0))), (q5, .inl (c5, 30, .inl (fun _ => 0))), (q6, .inl (c6, 30, .inl (fun _ => 0))), (q7, .inl (c7, 61000, .inl (fun _ => 0))), (q8, .inl (c8, 61, .inl (fun _ => 0))), (q11, .inl (c11, 7010, .inl (fun _ => 0))), (q13, .inl (c13, 5, .inl (fun _ => 0))), (q14, .inl (c14, 5, .inl (fun _ => 0))), (q15, .inl (c15, 60, .inl (fun _ => 0))), (q16, .inl (c16, 5000, .inl (fun _ => 0))), (q17, .inl (c17, 1000, .inl (fun _ => 0)))] := hD
  refine lv_aload_n hx hb d_x_init_121.1 rfl (lv_at hl 0 rfl) ?_
  refine lv_sipush (v := 1000) hx hb d_x_init_122.1 (by decide) ?_
  refine va_newa (atype := .short) (ty := .short) (a0 := (1000, .inl (fun _ => 0))) hx hb (hts _ tb_ashort) rfl hK hP hD hS hA (fun _ => rfl) (by decide) (by decide) (by decide) (Nat.le_of_ble_eq_true rfl) (Nat.le_of_ble_eq_true rfl) d_x_init_125.1 (fun q21 c21 H hK hP hD hS => ?_)
  have hK : va_K D classes [(c2, .int), (c3, .int), (c4, .int), (c5, .byte), (c6, .byte), (c7, .short), (c8, .int), (c11, .short), (c13, .int), (c14, .int), (c15, .byte), (c16, .int), (c17, .short), (c21, .short)] s := hK
  have hP : va_P D classes [(h0, .inr (0, [.int 0, .int 0, .ref q2, .ref q3, .ref q4, .ref q5, .ref q6, .ref q7, .ref q8, .int (-1), .int (-1), .ref q11, .int 0, .ref q13, .ref q14, .ref q15, .ref q16, .ref q17, .int 0, .int 0, .int (-1), .null, .int 0, .int 0])), (q2, .inl (c2, 5, .inl (fun _ => 0))), (q3, .inl (c3, 5, .inl (fun _ => 0))), (q4, .inl (c4, 5, .inl (fun _ => 0))), (q5, .inl (c5, 30, .inl (fun _ => 0))), (q6, .inl (c6, 30, .inl (fun _ => 0))), (q7, .inl (c7, 61000, .inl (fun _ => 0))), (q8, .inl (c8, 61, .inl (fun _ => 0))), (q11, .inl (c11, 7010, .inl (fun _ => 0))), (q13, .inl (c13, 5, .inl (fun _ => 0))), (q14, .inl (c14, 5, .inl (fun _ => 0))), (q15, .inl (c15, 60, .inl (fun _ => 0))), (q16, .inl (c16, 5000, .inl (fun _ => 0))), (q17, .inl (c17, 1000, .inl (fun _ => 0))), (q21, .inl (c21, 1000, .inl (fun _ => 0)))] H := hP
  have hD : va_D A [(h0, .inr (0, [.int 0, .int 0, .ref q2, .ref q3, .ref q4, .ref q5, .ref q6, .ref q7, .ref q8, .int (-1), .int (-1), .ref q11, .int 0, .ref q13, .ref q14, .ref q15, .ref q16, .ref q17, .int 0, .int 0, .int (-1), .null, .int 0, .int 0])), (q2, .inl (c2, 5, .inl (fun _ => 0))), (q3, .inl (c3, 5, .inl (fun _ => 0))), (q4, .inl (c4, 5, .inl (fun _ => 0))), (q5, .inl (c5, 30, .inl (fun _ => 0))), (q6, .inl (c6, 30, .inl (fun _ => 0))), (q7, .inl (c7, 61000, .inl (fun _ => 0))), (q8, .inl (c8, 61, .inl (fun _ => 0))), (q11, .inl (c11, 7010, .inl (fun _ => 0))), (q13, .inl (c13, 5, .inl (fun _ => 0))), (q14, .inl (c14, 5, .inl (fun _ => 0))), (q15, .inl (c15, 60, .inl (fun _ => 0))), (q16, .inl (c16, 5000, .inl (fun _ => 0))), (q17, .inl (c17, 1000, .inl (fun _ => 0))), (q21, .inl (c21, 1000, .inl (fun _ => 0)))] := hD
  refine W.widen (k := 14) (n := 75216) (by decide) (by decide) ?_
  refine va_putF (ci := 0) (v := .ref q21) (C := "CoverRounds") (T := F_x) (N := 24) hx hb hts xin_x t_x xtok_x xnm_x hown hK hP hD hS 0 rfl rfl 21 (by decide) (hts _ (xfl_x 21 (by decide))) (fun _ h9 => h9) rfl hin rfl (xtok_x 21 (by decide)) rfl rfl (Nat.le_of_ble_eq_true rfl) d_x_init_127.1 (fun H locs hP hD hS => ?_)
  have hP : va_P D classes [(h0, .inr (0, [.int 0, .int 0, .ref q2, .ref q3, .ref q4, .ref q5, .ref q6, .ref q7, .ref q8, .int (-1), .int (-1), .ref q11, .int 0, .ref q13, .ref q14, .ref q15, .ref q16, .ref q17, .int 0, .int 0, .int (-1), .ref q21, .int 0, .int 0])), (q2, .inl (c2, 5, .inl (fun _ => 0))), (q3, .inl (c3, 5, .inl (fun _ => 0))), (q4, .inl (c4, 5, .inl (fun _ => 0))), (q5, .inl (c5, 30, .inl (fun _ => 0))), (q6, .inl (c6, 30, .inl (fun _ => 0))), (q7, .inl (c7, 61000, .inl (fun _ => 0))), (q8, .inl (c8, 61, .inl (fun _ => 0))), (q11, .inl (c11, 7010, .inl (fun _ => 0))), (q13, .inl (c13, 5, .inl (fun _ => 0))), (q14, .inl (c14, 5, .inl (fun _ => 0))), (q15, .inl (c15, 60, .inl (fun _ => 0))), (q16, .inl (c16, 5000, .inl (fun _ => 0))), (q17, .inl (c17, 1000, .inl (fun _ => 0))), (q21, .inl (c21, 1000, .inl (fun _ => 0)))] H := hP
  have hD : va_D A [(h0, .inr (0, [.int 0, .int 0, .ref q2, .ref q3, .ref q4, .ref q5, .ref q6, .ref q7, .ref q8, .int (-1), .int (-1), .ref q11, .int 0, .ref q13, .ref q14, .ref q15, .ref q16, .ref q17, .int 0, .int 0, .int (-1), .ref q21, .int 0, .int 0])), (q2, .inl (c2, 5, .inl (fun _ => 0))), (q3, .inl (c3, 5, .inl (fun _ => 0))), (q4, .inl (c4, 5, .inl (fun _ => 0))), (q5, .inl (c5, 30, .inl (fun _ => 0))), (q6, .inl (c6, 30, .inl (fun _ => 0))), (q7, .inl (c7, 61000, .inl (fun _ => 0))), (q8, .inl (c8, 61, .inl (fun _ => 0))), (q11, .inl (c11, 7010, .inl (fun _ => 0))), (q13, .inl (c13, 5, .inl (fun _ => 0))), (q14, .inl (c14, 5, .inl (fun _ => 0))), (q15, .inl (c15, 60, .inl (fun _ => 0))), (q16, .inl (c16, 5000, .inl (fun _ => 0))), (q17, .inl (c17, 1000, .inl (fun _ => 0))), (q21, .inl (c21, 1000, .inl (fun _ => 0)))] := hD
  obtain ⟨qf, eq⟩ : ∃ z : Nat → Nat, z = (fun k => match k with
    | 0 => h0
    | 2 => q2
    | 3 => q3
    | 4 => q4
    | 5 => q5
    | 6 => q6
    | 7 => q7
    | 8 => q8
    | 11 => q11
    | 13 => q13
    | 14 => q14
    | 15 => q15
    | 16 => q16
    | 17 => q17
    | 21 => q21
    | _ => h0) := ⟨_, rfl⟩
  obtain ⟨cf, ec⟩ : ∃ z : Nat → ClassId, z = (fun k => match k with
    | 0 => c2
    | 2 => c2
    | 3 => c3
    | 4 => c4
    | 5 => c5
    | 6 => c6
    | 7 => c7
    | 8 => c8
    | 11 => c11
    | 13 => c13
    | 14 => c14
    | 15 => c15
    | 16 => c16
    | 17 => c17
    | 21 => c21
    | _ => c2) := ⟨_, rfl⟩
  have hP9 : va_P D classes (xw false qf cf x_0) H := by rw [eq, ec]; exact hP
  have hD9 : va_D A (xw false qf cf x_0) := by rw [eq, ec]; exact hD
  have hK9 : va_K D classes (xtys false cf) s := by rw [ec]; exact hK
  have e0 : qf 0 = h0 := by rw [eq]; rfl
  exact W.vret hx hb hr (fun t ht hW => ⟨⟨(qf, cf), rfl, e0, by rw [ht]; exact hP9, va_K.moved hW.alike hK9, hD9⟩, hS.F ht⟩) hS.2.2 d_x_init_130.1
/-- what a new object is, before its constructor -/
abbrev w0_m (h0 : Nat) : va_W := [(h0, .inr (1, [.int 0, .null, .null, .int 0, .null, .null, .null, .int 0, .int 0, .int 0, .null, .null, .null, .int 0, .null, .int 0, .null, .int 0, .int 0, .int 0, .null, .null, .int 0, .int 0, .null, .null, .null]))]
set_option maxHeartbeats 4000000 in
set_option maxRecDepth 100000 in
theorem c_m_init (l : Launch) (D : va_G) (h0 sz : Nat) : Met l y_m_init (.code y_m_init b_m_init 1 none :: lw_g) ({ frames := 1, cells := 15, slots := 83213, locals := 12 }) (va_Pc [.ref h0] (fun U => U.heap.size = sz ∧ va_P D classes (w0_m h0) U.heap ∧ va_K D classes [] U ∧ va_D (fun _ => True) (w0_m h0))) (va_Qv (fun u : (Nat → Nat) × (Nat → ClassId) => u.1 0 = h0) (fun u t => va_P D classes (xw true u.1 u.2 m_0) t.heap ∧ va_K D classes (xtys true u.2) t ∧ va_D (va_A (w0_m h0) sz) (xw true u.1 u.2 m_0)) (va_A (w0_m h0) sz)) 15 83213 (va_A (w0_m h0) sz) := by
  refine Met.ofW (cc := b_m_init) (maxL := 1) (ret := none) (by decide) rfl ?_
  intro p e s m args below meth c s₁ B hml hv
  obtain ⟨rfl, hsz, hP, hK, hD0⟩ := hv
  have hx := B.exec
  have hb := B.bytes
  have hr := B.returns
  have hts0 := atoms_spec (ws := .code y_m_init b_m_init 1 none :: lw_g) B.pre
  have hts : ∀ w ∈ lw_g, w.before _ s = true := fun w hw => hts0 w (List.mem_cons_of_mem _ hw)
  have hown : s.vm.findClass "CoverRoundsModel" = some m.cls := findClass_of_methodNamed B.named
  have hlocks := B.notSynchronized
  have hin : meth.name = "<init>" := (name_of_methodNamed B.named B.method).1
  subst hsz
  have hD := hD0.self (sz := s.heap.size)
  generalize hAe : va_A (w0_m h0) s.heap.size = A at hD ⊢
  have hA : ∀ q : Nat, s.heap.size ≤ q → A q := fun q h => by rw [← hAe]; exact Or.inr h
  have hS : va_S A s.heap s.heap [] := va_S.rf
  have hl := lv_entry ([.ref h0]) (n := 1) (Nat.le_of_ble_eq_true rfl)
  rw [lg_entry_eq]
  generalize (lg_sl ([.ref h0]) ++ List.replicate (1 - (lg_sl ([.ref h0])).length) Slot.unset).toArray = ls at hl ⊢
  have hl : lv_has ls 1 [(0, .ref h0)] := hl
  refine lv_aload_n hx hb d_m_init_0.1 rfl (lv_at hl 0 rfl) ?_
  refine W.objInit hx hb hown (hts _ tb_oim.1) (hts _ tb_oim.2.1) (hts _ tb_oim.2.2) rfl (by rw [hml]; exact hl.1) rfl d_m_init_1.1 (Nat.le_of_ble_eq_true rfl) (Nat.le_of_ble_eq_true rfl) ?_
  refine W.eq (g2 := F0 m 4 ls []) rfl ?_
  refine lv_aload_n hx hb d_m_init_4.1 rfl (lv_at hl 0 rfl) ?_
  refine lv_iconst (v := 5) hx hb d_m_init_5.1 (by decide) ?_
  refine va_newa (atype := .int) (ty := .int) (a0 := (5, .inl (fun _ => 0))) hx hb (hts _ tb_aint) rfl hK hP hD hS hA (fun _ => rfl) (by decide) (by decide) (by decide) (Nat.le_of_ble_eq_true rfl) (Nat.le_of_ble_eq_true rfl) d_m_init_6.1 (fun q1 c1 H hK hP hD hS => ?_)
  have hK : va_K D classes [(c1, .int)] s := hK
  have hP : va_P D classes [(h0, .inr (1, [.int 0, .null, .null, .int 0, .null, .null, .null, .int 0, .int 0, .int 0, .null, .null, .null, .int 0, .null, .int 0, .null, .int 0, .int 0, .int 0, .null, .null, .int 0, .int 0, .null, .null, .null])), (q1, .inl (c1, 5, .inl (fun _ => 0)))] H := hP
  have hD : va_D A [(h0, .inr (1, [.int 0, .null, .null, .int 0, .null, .null, .null, .int 0, .int 0, .int 0, .null, .null, .null, .int 0, .null, .int 0, .null, .int 0, .int 0, .int 0, .null, .null, .int 0, .int 0, .null, .null, .null])), (q1, .inl (c1, 5, .inl (fun _ => 0)))] := hD
  refine W.widen (k := 1) (n := 5) (by decide) (by decide) ?_
  refine va_putF (ci := 1) (v := .ref q1) (C := "CoverRoundsModel") (T := F_m) (N := 27) hx hb hts xin_m t_m xtok_m xnm_m hown hK hP hD hS 0 rfl rfl 1 (by decide) (hts _ (xfl_m 1 (by decide))) (fun _ h9 => h9) rfl hin rfl (xtok_m 1 (by decide)) rfl rfl (Nat.le_of_ble_eq_true rfl) d_m_init_8.1 (fun H locs hP hD hS => ?_)
  have hP : va_P D classes [(h0, .inr (1, [.int 0, .ref q1, .null, .int 0, .null, .null, .null, .int 0, .int 0, .int 0, .null, .null, .null, .int 0, .null, .int 0, .null, .int 0, .int 0, .int 0, .null, .null, .int 0, .int 0, .null, .null, .null])), (q1, .inl (c1, 5, .inl (fun _ => 0)))] H := hP
  have hD : va_D A [(h0, .inr (1, [.int 0, .ref q1, .null, .int 0, .null, .null, .null, .int 0, .int 0, .int 0, .null, .null, .null, .int 0, .null, .int 0, .null, .int 0, .int 0, .int 0, .null, .null, .int 0, .int 0, .null, .null, .null])), (q1, .inl (c1, 5, .inl (fun _ => 0)))] := hD
  refine lv_aload_n hx hb d_m_init_11.1 rfl (lv_at hl 0 rfl) ?_
  refine lv_iconst (v := 5) hx hb d_m_init_12.1 (by decide) ?_
  refine va_newa (atype := .int) (ty := .int) (a0 := (5, .inl (fun _ => 0))) hx hb (hts _ tb_aint) rfl hK hP hD hS hA (fun _ => rfl) (by decide) (by decide) (by decide) (Nat.le_of_ble_eq_true rfl) (Nat.le_of_ble_eq_true rfl) d_m_init_13.1 (fun q2 c2 H hK hP hD hS => ?_)
  have hK : va_K D classes [(c1, .int), (c2, .int)] s := hK
  have hP : va_P D classes [(h0, .inr (1, [.int 0, .ref q1, .null, .int 0, .null, .null, .null, .int 0, .int 0, .int 0, .null, .null, .null, .int 0, .null, .int 0, .null, .int 0, .int 0, .int 0, .null, .null, .int 0, .int 0, .null, .null, .null])), (q1, .inl (c1, 5, .inl (fun _ => 0))), (q2, .inl (c2, 5, .inl (fun _ => 0)))] H := hP
  have hD : va_D A [(h0, .inr (1, [.int 0, .ref q1, .null, .int 0, .null, .null, .null, .int 0, .int 0, .int 0, .null, .null, .null, .int 0, .null, .int 0, .null, .int 0, .int 0, .int 0, .null, .null, .int 0, .int 0, .null, .null, .null])), (q1, .inl (c1, 5, .inl (fun _ => 0))), (q2, .inl (c2, 5, .inl (fun _ => 0)))] := hD
  refine W.widen (k := 2) (n := 10) (by decide) (by decide) ?_
  refine va_putF (ci := 1) (v := .ref q2) (C := "CoverRoundsModel") (T := F_m) (N := 27) hx hb hts xin_m t_m xtok_m xnm_m hown hK hP hD hS 0 rfl rfl 2 (by decide) (hts _ (xfl_m 2 (by decide))) (fun _ h9 => h9) rfl hin rfl (xtok_m 2 (by decide)) rfl rfl (Nat.le_of_ble_eq_true rfl) d_m_init_15.1 (fun H locs hP hD hS => ?_)
  have hP : va_P D classes [(h0, .inr (1, [.int 0, .ref q1, .ref q2, .int 0, .null, .null, .null, .int 0, .int 0, .int 0, .null, .null, .null, .int 0, .null, .int 0, .null, .int 0, .int 0, .int 0, .null, .null, .int 0, .int 0, .null, .null, .null])), (q1, .inl (c1, 5, .inl (fun _ => 0))), (q2, .inl (c2, 5, .inl (fun _ => 0)))] H := hP
  have hD : va_D A [(h0, .inr (1, [.int 0, .ref q1, .ref q2, .int 0, .null, .null, .null, .int 0, .int 0, .int 0, .null, .null, .null, .int 0, .null, .int 0, .null, .int 0, .int 0, .int 0, .null, .null, .int 0, .int 0, .null, .null, .null])), (q1, .inl (c1, 5, .inl (fun _ => 0))), (q2, .inl (c2, 5, .inl (fun _ => 0)))] := hD
  refine lv_aload_n hx hb d_m_init_18.1 rfl (lv_at hl 0 rfl) ?_
  refine lv_bipush (v := 30) hx hb d_m_init_19.1 (by decide) ?_
  refine va_newa (atype := .int) (ty := .int) (a0 := (30, .inl (fun _ => 0))) hx hb (hts _ tb_aint) rfl hK hP hD hS hA (fun _ => rfl) (by decide) (by decide) (by decide) (Nat.le_of_ble_eq_true rfl) (Nat.le_of_ble_eq_true rfl) d_m_init_21.1 (fun q4 c4 H hK hP hD hS => ?_)
  have hK : va_K D classes [(c1, .int), (c2, .int), (c4, .int)] s := hK
  have hP : va_P D classes [(h0, .inr (1, [.int 0, .ref q1, .ref q2, .int 0, .null, .null, .null, .int 0, .int 0, .int 0, .null, .null, .null, .int 0, .null, .int 0, .null, .int 0, .int 0, .int 0, .null, .null, .int 0, .int 0, .null, .null, .null])), (q1, .inl (c1, 5, .inl (fun _ => 0))), (q2, .inl (c2, 5, .inl (fun _ => 0))), (q4, .inl (c4, 30, .inl (fun _ => 0)))] H := hP
  have hD : va_D A [(h0, .inr (1, [.int 0, .ref q1, .ref q2, .int 0, .null, .null, .null, .int 0, .int 0, .int 0, .null, .null, .null, .int 0, .null, .int 0, .null, .int 0, .int 0, .int 0, .null, .null, .int 0, .int 0, .null, .null, .null])), (q1, .inl (c1, 5, .inl (fun _ => 0))), (q2, .inl (c2, 5, .inl (fun _ => 0))), (q4, .inl (c4, 30, .inl (fun _ => 0)))] := hD
  refine W.widen (k := 3) (n := 40) (by decide) (by decide) ?_
  refine va_putF (ci := 1) (v := .ref q4) (C := "CoverRoundsModel") (T := F_m) (N := 27) hx hb hts xin_m t_m xtok_m xnm_m hown hK hP hD hS 0 rfl rfl 4 (by decide) (hts _ (xfl_m 4 (by decide))) (fun _ h9 => h9) rfl hin rfl (xtok_m 4 (by decide)) rfl rfl (Nat.le_of_ble_eq_true rfl) d_m_init_23.1 (fun H locs hP hD hS => ?_)
  have hP : va_P D classes [(h0, .inr (1, [.int 0, .ref q1, .ref q2, .int 0, .ref q4, .null, .null, .int 0, .int 0, .int 0, .null, .null, .null, .int 0, .null, .int 0, .null, .int 0, .int 0, .int 0, .null, .null, .int 0, .int 0, .null, .null, .null])), (q1, .inl (c1, 5, .inl (fun _ => 0))), (q2, .inl (c2, 5, .inl (fun _ => 0))), (q4, .inl (c4, 30, .inl (fun _ => 0)))] H := hP
  have hD : va_D A [(h0, .inr (1, [.int 0, .ref q1, .ref q2, .int 0, .ref q4, .null, .null, .int 0, .int 0, .int 0, .null, .null, .null, .int 0, .null, .int 0, .null, .int 0, .int 0, .int 0, .null, .null, .int 0, .int 0, .null, .null, .null])), (q1, .inl (c1, 5, .inl (fun _ => 0))), (q2, .inl (c2, 5, .inl (fun _ => 0))), (q4, .inl (c4, 30, .inl (fun _ => 0)))] := hD
  refine lv_aload_n hx hb d_m_init_26.1 rfl (lv_at hl 0 rfl) ?_
  refine lv_bipush (v := 30) hx hb d_m_init_27.1 (by decide) ?_
  refine va_newa (atype := .int) (ty := .int) (a0 := (30, .inl (fun _ => 0))) hx hb (hts _ tb_aint) rfl hK hP hD hS hA (fun _ => rfl) (by decide) (by decide) (by decide) (Nat.le_of_ble_eq_true rfl) (Nat.le_of_ble_eq_true rfl) d_m_init_29.1 (fun q5 c5 H hK hP hD hS => ?_)
  have hK : va_K D classes [(c1, .int), (c2, .int), (c4, .int), (c5, .int)] s := hK
  have hP : va_P D classes [(h0, .inr (1, [.int 0, .ref q1, .ref q2, .int 0, .ref q4, .null, .null, .int 0, .int 0, .int 0, .null, .null, .null, .int 0, .null, .int 0, .null, .int 0, .int 0, .int 0, .null, .null, .int 0, .int 0, .null, .null, .null])), (q1, .inl (c1, 5, .inl (fun _ => 0))), (q2, .inl (c2, 5, .inl (fun _ => 0))), (q4, .inl (c4, 30, .inl (fun _ => 0))), (q5, .inl (c5, 30, .inl (fun _ => 0)))] H := hP
  have hD : va_D A [(h0, .inr (1, [.int 0, .ref q1, .ref q2, .int 0, .ref q4, .null, .null, .int 0, .int 0, .int 0, .null, .null, .null, .int 0, .null, .int 0, .null, .int 0, .int 0, .int 0, .null, .null, .int 0, .int 0, .null, .null, .null])), (q1, .inl (c1, 5, .inl (fun _ => 0))), (q2, .inl (c2, 5, .inl (fun _ => 0))), (q4, .inl (c4, 30, .inl (fun _ => 0))), (q5, .inl (c5, 30, .inl (fun _ => 0)))] := hD
  refine W.widen (k := 4) (n := 70) (by decide) (by decide) ?_
  refine va_putF (ci := 1) (v := .ref q5) (C := "CoverRoundsModel") (T := F_m) (N := 27) hx hb hts xin_m t_m xtok_m xnm_m hown hK hP hD hS 0 rfl rfl 5 (by decide) (hts _ (xfl_m 5 (by decide))) (fun _ h9 => h9) rfl hin rfl (xtok_m 5 (by decide)) rfl rfl (Nat.le_of_ble_eq_true rfl) d_m_init_31.1 (fun H locs hP hD hS => ?_)
  have hP : va_P D classes [(h0, .inr (1, [.int 0, .ref q1, .ref q2, .int 0, .ref q4, .ref q5, .null, .int 0, .int 0, .int 0, .null, .null, .null, .int 0, .null, .int 0, .null, .int 0, .int 0, .int 0, .null, .null, .int 0, .int 0, .null, .null, .null])), (q1, .inl (c1, 5, .inl (fun _ => 0))), (q2, .inl (c2, 5, .inl (fun _ => 0))), (q4, .inl (c4, 30, .inl (fun _ => 0))), (q5, .inl (c5, 30, .inl (fun _ => 0)))] H := hP
  have hD : va_D A [(h0, .inr (1, [.int 0, .ref q1, .ref q2, .int 0, .ref q4, .ref q5, .null, .int 0, .int 0, .int 0, .null, .null, .null, .int 0, .null, .int 0, .null, .int 0, .int 0, .int 0, .null, .null, .int 0, .int 0, .null, .null, .null])), (q1, .inl (c1, 5, .inl (fun _ => 0))), (q2, .inl (c2, 5, .inl (fun _ => 0))), (q4, .inl (c4, 30, .inl (fun _ => 0))), (q5, .inl (c5, 30, .inl (fun _ => 0)))] := hD
  refine lv_aload_n hx hb d_m_init_34.1 rfl (lv_at hl 0 rfl) ?_
  refine lv_iconst (v := 5) hx hb d_m_init_35.1 (by decide) ?_
  refine va_newa (atype := .int) (ty := .int) (a0 := (5, .inl (fun _ => 0))) hx hb (hts _ tb_aint) rfl hK hP hD hS hA (fun _ => rfl) (by decide) (by decide) (by decide) (Nat.le_of_ble_eq_true rfl) (Nat.le_of_ble_eq_true rfl) d_m_init_36.1 (fun q6 c6 H hK hP hD hS => ?_)
  have hK : va_K D classes [(c1, .int), (c2, .int), (c4, .int), (c5, .int), (c6, .int)] s := hK
  have hP : va_P D classes [(h0, .inr (1, [.int 0, .ref q1, .ref q2, .int 0, .ref q4, .ref q5, .null, .int 0, .int 0, .int 0, .null, .null, .null, .int 0, .null, .int 0, .null, .int 0, .int 0, .int 0, .null, .null, .int 0, .int 0, .null, .null, .null])), (q1, .inl (c1, 5, .inl (fun _ => 0))), (q2, .inl (c2, 5, .inl (fun _ => 0))), (q4, .inl (c4, 30, .inl (fun _ => 0))), (q5, .inl (c5, 30, .inl (fun _ => 0))), (q6, .inl (c6, 5, .inl (fun _ => 0)))] H := hP
  have hD : va_D A [(h0, .inr (1, [.int 0, .ref q1, .ref q2, .int 0, .ref q4, .ref q5, .null, .int 0, .int 0, .int 0, .null, .null, .null, .int 0, .null, .int 0, .null, .int 0, .int 0, .int 0, .null, .null, .int 0, .int 0, .null, .null, .null])), (q1, .inl (c1, 5, .inl (fun _ => 0))), (q2, .inl (c2, 5, .inl (fun _ => 0))), (q4, .inl (c4, 30, .inl (fun _ => 0))), (q5, .inl (c5, 30, .inl (fun _ => 0))), (q6, .inl (c6, 5, .inl (fun _ => 0)))] := hD
  refine W.widen (k := 5) (n := 75) (by decide) (by decide) ?_
  refine va_putF (ci := 1) (v := .ref q6) (C := "CoverRoundsModel") (T := F_m) (N := 27) hx hb hts xin_m t_m xtok_m xnm_m hown hK hP hD hS 0 rfl rfl 6 (by decide) (hts _ (xfl_m 6 (by decide))) (fun _ h9 => h9) rfl hin rfl (xtok_m 6 (by decide)) rfl rfl (Nat.le_of_ble_eq_true rfl) d_m_init_38.1 (fun H locs hP hD hS => ?_)
  have hP : va_P D classes [(h0, .inr (1, [.int 0, .ref q1, .ref q2, .int 0, .ref q4, .ref q5, .ref q6, .int 0, .int 0, .int 0, .null, .null, .null, .int 0, .null, .int 0, .null, .int 0, .int 0, .int 0, .null, .null, .int 0, .int 0, .null, .null, .null])), (q1, .inl (c1, 5, .inl (fun _ => 0))), (q2, .inl (c2, 5, .inl (fun _ => 0))), (q4, .inl (c4, 30, .inl (fun _ => 0))), (q5, .inl (c5, 30, .inl (fun _ => 0))), (q6, .inl (c6, 5, .inl (fun _ => 0)))] H := hP
  have hD : va_D A [(h0, .inr (1, [.int 0, .ref q1, .ref q2, .int 0, .ref q4, .ref q5, .ref q6, .int 0, .int 0, .int 0, .null, .null, .null, .int 0, .null, .int 0, .null, .int 0, .int 0, .int 0, .null, .null, .int 0, .int 0, .null, .null, .null])), (q1, .inl (c1, 5, .inl (fun _ => 0))), (q2, .inl (c2, 5, .inl (fun _ => 0))), (q4, .inl (c4, 30, .inl (fun _ => 0))), (q5, .inl (c5, 30, .inl (fun _ => 0))), (q6, .inl (c6, 5, .inl (fun _ => 0)))] := hD
  refine lv_aload_n hx hb d_m_init_41.1 rfl (lv_at hl 0 rfl) ?_
  refine lv_iconst (v := 2) hx hb d_m_init_42.1 (by decide) ?_
  refine va_put (ci := 1) (v := .int 2) (C := "CoverRoundsModel") (T := F_m) (N := 27) hx hb hts xin_m t_m xtok_m xnm_m hown hK hP hD hS 0 rfl rfl 7 (by decide) (hts _ (xfl_m 7 (by decide))) (fun _ h9 => h9) rfl (xtok_m 7 (by decide)) rfl rfl (Nat.le_of_ble_eq_true rfl) d_m_init_43.1 (fun H locs hP hD hS => ?_)
  have hP : va_P D classes [(h0, .inr (1, [.int 0, .ref q1, .ref q2, .int 0, .ref q4, .ref q5, .ref q6, .int 2, .int 0, .int 0, .null, .null, .null, .int 0, .null, .int 0, .null, .int 0, .int 0, .int 0, .null, .null, .int 0, .int 0, .null, .null, .null])), (q1, .inl (c1, 5, .inl (fun _ => 0))), (q2, .inl (c2, 5, .inl (fun _ => 0))), (q4, .inl (c4, 30, .inl (fun _ => 0))), (q5, .inl (c5, 30, .inl (fun _ => 0))), (q6, .inl (c6, 5, .inl (fun _ => 0)))] H := hP
  have hD : va_D A [(h0, .inr (1, [.int 0, .ref q1, .ref q2, .int 0, .ref q4, .ref q5, .ref q6, .int 2, .int 0, .int 0, .null, .null, .null, .int 0, .null, .int 0, .null, .int 0, .int 0, .int 0, .null, .null, .int 0, .int 0, .null, .null, .null])), (q1, .inl (c1, 5, .inl (fun _ => 0))), (q2, .inl (c2, 5, .inl (fun _ => 0))), (q4, .inl (c4, 30, .inl (fun _ => 0))), (q5, .inl (c5, 30, .inl (fun _ => 0))), (q6, .inl (c6, 5, .inl (fun _ => 0)))] := hD
  refine lv_aload_n hx hb d_m_init_46.1 rfl (lv_at hl 0 rfl) ?_
  refine lv_bipush (v := 61) hx hb d_m_init_47.1 (by decide) ?_
  refine va_newa (atype := .int) (ty := .int) (a0 := (61, .inl (fun _ => 0))) hx hb (hts _ tb_aint) rfl hK hP hD hS hA (fun _ => rfl) (by decide) (by decide) (by decide) (Nat.le_of_ble_eq_true rfl) (Nat.le_of_ble_eq_true rfl) d_m_init_49.1 (fun q10 c10 H hK hP hD hS => ?_)
  have hK : va_K D classes [(c1, .int), (c2, .int), (c4, .int), (c5, .int), (c6, .int), (c10, .int)] s := hK
  have hP : va_P D classes [(h0, .inr (1, [.int 0, .ref q1, .ref q2, .int 0, .ref q4, .ref q5, .ref q6, .int 2, .int 0, .int 0, .null, .null, .null, .int 0, .null, .int 0, .null, .int 0, .int 0, .int 0, .null, .null, .int 0, .int 0, .null, .null, .null])), (q1, .inl (c1, 5, .inl (fun _ => 0))), (q2, .inl (c2, 5, .inl (fun _ => 0))), (q4, .inl (c4, 30, .inl (fun _ => 0))), (q5, .inl (c5, 30, .inl (fun _ => 0))), (q6, .inl (c6, 5, .inl (fun _ => 0))), (q10, .inl (c10, 61, .inl (fun _ => 0)))] H := hP
  have hD : va_D A [(h0, .inr (1, [.int 0, .ref q1, .ref q2, .int 0, .ref q4, .ref q5, .ref q6, .int 2, .int 0, .int 0, .null, .null, .null, .int 0, .null, .int 0, .null, .int 0, .int 0, .int 0, .null, .null, .int 0, .int 0, .null, .null, .null])), (q1, .inl (c1, 5, .inl (fun _ => 0))), (q2, .inl (c2, 5, .inl (fun _ => 0))), (q4, .inl (c4, 30, .inl (fun _ => 0))), (q5, .inl (c5, 30, .inl (fun _ => 0))), (q6, .inl (c6, 5, .inl (fun _ => 0))), (q10, .inl (c10, 61, .inl (fun _ => 0)))] := hD
  refine W.widen (k := 6) (n := 136) (by decide) (by decide) ?_
  refine va_putF (ci := 1) (v := .ref q10) (C := "CoverRoundsModel") (T := F_m) (N := 27) hx hb hts xin_m t_m xtok_m xnm_m hown hK hP hD hS 0 rfl rfl 10 (by decide) (hts _ (xfl_m 10 (by decide))) (fun _ h9 => h9) rfl hin rfl (xtok_m 10 (by decide)) rfl rfl (Nat.le_of_ble_eq_true rfl) d_m_init_51.1 (fun H locs hP hD hS => ?_)
  have hP : va_P D classes [(h0, .inr (1, [.int 0, .ref q1, .ref q2, .int 0, .ref q4, .ref q5, .ref q6, .int 2, .int 0, .int 0, .ref q10, .null, .null, .int 0, .null, .int 0, .null, .int 0, .int 0, .int 0, .null, .null, .int 0, .int 0, .null, .null, .null])), (q1, .inl (c1, 5, .inl (fun _ => 0))), (q2, .inl (c2, 5, .inl (fun _ => 0))), (q4, .inl (c4, 30, .inl (fun _ => 0))), (q5, .inl (c5, 30, .inl (fun _ => 0))), (q6, .inl (c6, 5, .inl (fun _ => 0))), (q10, .inl (c10, 61, .inl (fun _ => 0)))] H := hP
  have hD : va_D A [(h0, .inr (1, [.int 0, .ref q1, .ref q2, .int 0, .ref q4, .ref q5, .ref q6, .int 2, .int 0, .int 0, .ref q10, .null, .null, .int 0, .null, .int 0, .null, .int 0, .int 0, .int 0, .null, .null, .int 0, .int 0, .null, .null, .null])), (q1, .inl (c1, 5, .inl (fun _ => 0))), (q2, .inl (c2, 5, .inl (fun _ => 0))), (q4, .inl (c4, 30, .inl (fun _ => 0))), (q5, .inl (c5, 30, .inl (fun _ => 0))), (q6, .inl (c6, 5, .inl (fun _ => 0))), (q10, .inl (c10, 61, .inl (fun _ => 0)))] := hD
  refine lv_aload_n hx hb d_m_init_54.1 rfl (lv_at hl 0 rfl) ?_
  refine lv_ldc hx hb hown (hts _ tb_cm32) d_m_init_55.1 ?_
  refine va_newa (atype := .int) (ty := .int) (a0 := (61000, .inl (fun _ => 0))) hx hb (hts _ tb_aint) rfl hK hP hD hS hA (fun _ => rfl) (by decide) (by decide) (by decide) (Nat.le_of_ble_eq_true rfl) (Nat.le_of_ble_eq_true rfl) d_m_init_57.1 (fun q11 c11 H hK hP hD hS => ?_)
  have hK : va_K D classes [(c1, .int), (c2, .int), (c4, .int), (c5, .int), (c6, .int), (c10, .int), (c11, .int)] s := hK
  have hP : va_P D classes [(h0, .inr (1, [.int 0, .ref q1, .ref q2, .int 0, .ref q4, .ref q5, .ref q6, .int 2, .int 0, .int 0, .ref q10, .null, .null, .int 0, .null, .int 0, .null, .int 0, .int 0, .int 0, .null, .null, .int 0, .int 0, .null, .null, .null])), (q1, .inl (c1, 5, .inl (fun _ => 0))), (q2, .inl (c2, 5, .inl (fun _ => 0))), (q4, .inl (c4, 30, .inl (fun _ => 0))), (q5, .inl (c5, 30, .inl (fun _ => 0))), (q6, .inl (c6, 5, .inl (fun _ => 0))), (q10, .inl (c10, 61, .inl (fun _ => 0))), (q11, .inl (c11, 61000, .inl (fun _ => 0)))] H := hP
  have hD : va_D A [(h0, .inr (1, [.int 0, .ref q1, .ref q2, .int 0, .ref q4, .ref q5, .ref q6, .int 2, .int 0, .int 0, .ref q10, .null, .null, .int 0, .null, .int 0, .null, .int 0, .int 0, .int 0, .null, .null, .int 0, .int 0, .null, .null, .null])), (q1, .inl (c1, 5, .inl (fun _ => 0))), (q2, .inl (c2, 5, .inl (fun _ => 0))), (q4, .inl (c4, 30, .inl (fun _ => 0))), (q5, .inl (c5, 30, .inl (fun _ => 0))), (q6, .inl (c6, 5, .inl (fun _ => 0))), (q10, .inl (c10, 61, .inl (fun _ => 0))), (q11, .inl (c11, 61000, .inl (fun _ => 0)))] := hD
  refine W.widen (k := 7) (n := 61136) (by decide) (by decide) ?_
  refine va_putF (ci := 1) (v := .ref q11) (C := "CoverRoundsModel") (T := F_m) (N := 27) hx hb hts xin_m t_m xtok_m xnm_m hown hK hP hD hS 0 rfl rfl 11 (by decide) (hts _ (xfl_m 11 (by decide))) (fun _ h9 => h9) rfl hin rfl (xtok_m 11 (by decide)) rfl rfl (Nat.le_of_ble_eq_true rfl) d_m_init_59.1 (fun H locs hP hD hS => ?_)
  have hP : va_P D classes [(h0, .inr (1, [.int 0, .ref q1, .ref q2, .int 0, .ref q4, .ref q5, .ref q6, .int 2, .int 0, .int 0, .ref q10, .ref q11, .null, .int 0, .null, .int 0, .null, .int 0, .int 0, .int 0, .null, .null, .int 0, .int 0, .null, .null, .null])), (q1, .inl (c1, 5, .inl (fun _ => 0))), (q2, .inl (c2, 5, .inl (fun _ => 0))), (q4, .inl (c4, 30, .inl (fun _ => 0))), (q5, .inl (c5, 30, .inl (fun _ => 0))), (q6, .inl (c6, 5, .inl (fun _ => 0))), (q10, .inl (c10, 61, .inl (fun _ => 0))), (q11, .inl (c11, 61000, .inl (fun _ => 0)))] H := hP
  have hD : va_D A [(h0, .inr (1, [.int 0, .ref q1, .ref q2, .int 0, .ref q4, .ref q5, .ref q6, .int 2, .int 0, .int 0, .ref q10, .ref q11, .null, .int 0, .null, .int 0, .null, .int 0, .int 0, .int 0, .null, .null, .int 0, .int 0, .null, .null, .null])), (q1, .inl (c1, 5, .inl (fun _ => 0))), (q2, .inl (c2, 5, .inl (fun _ => 0))), (q4, .inl (c4, 30, .inl (fun _ => 0))), (q5, .inl (c5, 30, .inl (fun _ => 0))), (q6, .inl (c6, 5, .inl (fun _ => 0))), (q10, .inl (c10, 61, .inl (fun _ => 0))), (q11, .inl (c11, 61000, .inl (fun _ => 0)))] := hD
  refine lv_aload_n hx hb d_m_init_62.1 rfl (lv_at hl 0 rfl) ?_
  refine lv_sipush (v := 7500) hx hb d_m_init_63.1 (by decide) ?_
  refine va_newa (atype := .int) (ty := .int) (a0 := (7500, .inl (fun _ => 0))) hx hb (hts _ tb_aint) rfl hK hP hD hS hA (fun _ => rfl) (by decide) (by decide) (by decide) (Nat.le_of_ble_eq_true rfl) (Nat.le_of_ble_eq_true rfl) d_m_init_66.1 (fun q12 c12 H hK hP hD hS => ?_)
  have hK : va_K D classes [(c1, .int), (c2, .int), (c4, .int), (c5, .int), (c6, .int), (c10, .int), (c11, .int), (c12, .int)] s := hK
  have hP : va_P D classes [(h0, .inr (1, [.int 0, .ref q1, .ref q2, .int 0, .ref q4, .ref q5, .ref q6, .int 2, .int 0, .int 0, .ref q10, .ref q11, .null, .int 0, .null, .int 0, .null, .int 0, .int 0, .int 0, .null, .null, .int 0, .int 0, .null, .null, .null])), (q1, .inl (c1, 5, .inl (fun _ => 0))), (q2, .inl (c2, 5, .inl (fun _ => 0))), (q4, .inl (c4, 30, .inl (fun _ => 0))), (q5, .inl (c5, 30, .inl (fun _ => 0))), (q6, .inl (c6, 5, .inl (fun _ => 0))), (q10, .inl (c10, 61, .inl (fun _ => 0))), (q11, .inl (c11, 61000, .inl (fun _ => 0))), (q12, .inl (c12, 7500, .inl (fun _ => 0)))] H := hP
  have hD : va_D A [(h0, .inr (1, [.int 0, .ref q1, .ref q2, .int 0, .ref q4, .ref q5, .ref q6, .int 2, .int 0, .int 0, .ref q10, .ref q11, .null, .int 0, .null, .int 0, .null, .int 0, .int 0, .int 0, .null, .null, .int 0, .int 0, .null, .null, .null])), (q1, .inl (c1, 5, .inl (fun _ => 0))), (q2, .inl (c2, 5, .inl (fun _ => 0))), (q4, .inl (c4, 30, .inl (fun _ => 0))), (q5, .inl (c5, 30, .inl (fun _ => 0))), (q6, .inl (c6, 5, .inl (fun _ => 0))), (q10, .inl (c10, 61, .inl (fun _ => 0))), (q11, .inl (c11, 61000, .inl (fun _ => 0))), (q12, .inl (c12, 7500, .inl (fun _ => 0)))] := hD
  refine W.widen (k := 8) (n := 68636) (by decide) (by decide) ?_
  refine va_putF (ci := 1) (v := .ref q12) (C := "CoverRoundsModel") (T := F_m) (N := 27) hx hb hts xin_m t_m xtok_m xnm_m hown hK hP hD hS 0 rfl rfl 12 (by decide) (hts _ (xfl_m 12 (by decide))) (fun _ h9 => h9) rfl hin rfl (xtok_m 12 (by decide)) rfl rfl (Nat.le_of_ble_eq_true rfl) d_m_init_68.1 (fun H locs hP hD hS => ?_)
  have hP : va_P D classes [(h0, .inr (1, [.int 0, .ref q1, .ref q2, .int 0, .ref q4, .ref q5, .ref q6, .int 2, .int 0, .int 0, .ref q10, .ref q11, .ref q12, .int 0, .null, .int 0, .null, .int 0, .int 0, .int 0, .null, .null, .int 0, .int 0, .null, .null, .null])), (q1, .inl (c1, 5, .inl (fun _ => 0))), (q2, .inl (c2, 5, .inl (fun _ => 0))), (q4, .inl (c4, 30, .inl (fun _ => 0))), (q5, .inl (c5, 30, .inl (fun _ => 0))), (q6, .inl (c6, 5, .inl (fun _ => 0))), (q10, .inl (c10, 61, .inl (fun _ => 0))), (q11, .inl (c11, 61000, .inl (fun _ => 0))), (q12, .inl (c12, 7500, .inl (fun _ => 0)))] H := hP
  have hD : va_D A [(h0, .inr (1, [.int 0, .ref q1, .ref q2, .int 0, .ref q4, .ref q5, .ref q6, .int 2, .int 0, .int 0, .ref q10, .ref q11, .ref q12, .int 0, .null, .int 0, .null, .int 0, .int 0, .int 0, .null, .null, .int 0, .int 0, .null, .null, .null])), (q1, .inl (c1, 5, .inl (fun _ => 0))), (q2, .inl (c2, 5, .inl (fun _ => 0))), (q4, .inl (c4, 30, .inl (fun _ => 0))), (q5, .inl (c5, 30, .inl (fun _ => 0))), (q6, .inl (c6, 5, .inl (fun _ => 0))), (q10, .inl (c10, 61, .inl (fun _ => 0))), (q11, .inl (c11, 61000, .inl (fun _ => 0))), (q12, .inl (c12, 7500, .inl (fun _ => 0)))] := hD
  refine lv_aload_n hx hb d_m_init_71.1 rfl (lv_at hl 0 rfl) ?_
  refine lv_sipush (v := 7500) hx hb d_m_init_72.1 (by decide) ?_
  refine va_newa (atype := .int) (ty := .int) (a0 := (7500, .inl (fun _ => 0))) hx hb (hts _ tb_aint) rfl hK hP hD hS hA (fun _ => rfl) (by decide) (by decide) (by decide) (Nat.le_of_ble_eq_true rfl) (Nat.le_of_ble_eq_true rfl) d_m_init_75.1 (fun q14 c14 H hK hP hD hS => ?_)
  have hK : va_K D classes [(c1, .int), (c2, .int), (c4, .int), (c5, .int), (c6, .int), (c10, .int), (c11, .int), (c12, .int), (c14, .int)] s := hK
  have hP : va_P D classes [(h0, .inr (1, [.int 0, .ref q1, .ref q2, .int 0, .ref q4, .ref q5, .ref q6, .int 2, .int 0, .int 0, .ref q10, .ref q11, .ref q12, .int 0, .null, .int 0, .null, .int 0, .int 0, .int 0, .null, .null, .int 0, .int 0, .null, .null, .null])), (q1, .inl (c1, 5, .inl (fun _ => 0))), (q2, .inl (c2, 5, .inl (fun _ => 0))), (q4, .inl (c4, 30, .inl (fun _ => 0))), (q5, .inl (c5, 30, .inl (fun _ => 0))), (q6, .inl (c6, 5, .inl (fun _ => 0))), (q10, .inl (c10, 61, .inl (fun _ => 0))), (q11, .inl (c11, 61000, .inl (fun _ => 0))), (q12, .inl (c12, 7500, .inl (fun _ => 0))), (q14, .inl (c14, 7500, .inl (fun _ => 0)))] H := hP
  have hD : va_D A [(h0, .inr (1, [.int 0, .ref q1, .ref q2, .int 0, .ref q4, .ref q5, .ref q6, .int 2, .int 0, .int 0, .ref q10, .ref q11, .ref q12, .int 0, .null, .int 0, .null, .int 0, .int 0, .int 0, .null, .null, .int 0, .int 0, .null, .null, .null])), (q1, .inl (c1, 5, .inl (fun _ => 0))), (q2, .inl (c2, 5, .inl (fun _ => 0))), (q4, .inl (c4, 30, .inl (fun _ => 0))), (q5, .inl (c5, 30, .inl (fun _ => 0))), (q6, .inl (c6, 5, .inl (fun _ => 0))), (q10, .inl (c10, 61, .inl (fun _ => 0))), (q11, .inl (c11, 61000, .inl (fun _ => 0))), (q12, .inl (c12, 7500, .inl (fun _ => 0))), (q14, .inl (c14, 7500, .inl (fun _ => 0)))] := hD
  refine W.widen (k := 9) (n := 76136) (by decide) (by decide) ?_
  refine va_putF (ci := 1) (v := .ref q14) (C := "CoverRoundsModel") (T := F_m) (N := 27) hx hb hts xin_m t_m xtok_m xnm_m hown hK hP hD hS 0 rfl rfl 14 (by decide) (hts _ (xfl_m 14 (by decide))) (fun _ h9 => h9) rfl hin rfl (xtok_m 14 (by decide)) rfl rfl (Nat.le_of_ble_eq_true rfl) d_m_init_77.1 (fun H locs hP hD hS => ?_)
  have hP : va_P D classes [(h0, .inr (1, [.int 0, .ref q1, .ref q2, .int 0, .ref q4, .ref q5, .ref q6, .int 2, .int 0, .int 0, .ref q10, .ref q11, .ref q12, .int 0, .ref q14, .int 0, .null, .int 0, .int 0, .int 0, .null, .null, .int 0, .int 0, .null, .null, .null])), (q1, .inl (c1, 5, .inl (fun _ => 0))), (q2, .inl (c2, 5, .inl (fun _ => 0))), (q4, .inl (c4, 30, .inl (fun _ => 0))), (q5, .inl (c5, 30, .inl (fun _ => 0))), (q6, .inl (c6, 5, .inl (fun _ => 0))), (q10, .inl (c10, 61, .inl (fun _ => 0))), (q11, .inl (c11, 61000, .inl (fun _ => 0))), (q12, .inl (c12, 7500, .inl (fun _ => 0))), (q14, .inl (c14, 7500, .inl (fun _ => 0)))] H := hP
  have hD : va_D A [(h0, .inr (1, [.int 0, .ref q1, .ref q2, .int 0, .ref q4, .ref q5, .ref q6, .int 2, .int 0, .int 0, .ref q10, .ref q11, .ref q12, .int 0, .ref q14, .int 0, .null, .int 0, .int 0, .int 0, .null, .null, .int 0, .int 0, .null, .null, .null])), (q1, .inl (c1, 5, .inl (fun _ => 0))), (q2, .inl (c2, 5, .inl (fun _ => 0))), (q4, .inl (c4, 30, .inl (fun _ => 0))), (q5, .inl (c5, 30, .inl (fun _ => 0))), (q6, .inl (c6, 5, .inl (fun _ => 0))), (q10, .inl (c10, 61, .inl (fun _ => 0))), (q11, .inl (c11, 61000, .inl (fun _ => 0))), (q12, .inl (c12, 7500, .inl (fun _ => 0))), (q14, .inl (c14, 7500, .inl (fun _ => 0)))] := hD
  refine lv_aload_n hx hb d_m_init_80.1 rfl (lv_at hl 0 rfl) ?_
  refine lv_bipush (v := 60) hx hb d_m_init_81.1 (by decide) ?_
  refine va_newa (atype := .int) (ty := .int) (a0 := (60, .inl (fun _ => 0))) hx hb (hts _ tb_aint) rfl hK hP hD hS hA (fun _ => rfl) (by decide) (by decide) (by decide) (Nat.le_of_ble_eq_true rfl) (Nat.le_of_ble_eq_true rfl) d_m_init_83.1 (fun q16 c16 H hK hP hD hS => ?_)
  have hK : va_K D classes [(c1, .int), (c2, .int), (c4, .int), (c5, .int), (c6, .int), (c10, .int), (c11, .int), (c12, .int), (c14, .int), (c16, .int)] s := hK
  have hP : va_P D classes [(h0, .inr (1, [.int 0, .ref q1, .ref q2, .int 0, .ref q4, .ref q5, .ref q6, .int 2, .int 0, .int 0, .ref q10, .ref q11, .ref q12, .int 0, .ref q14, .int 0, .null, .int 0, .int 0, .int 0, .null, .null, .int 0, .int 0, .null, .null, .null])), (q1, .inl (c1, 5, .inl (fun _ => 0))), (q2, .inl (c2, 5, .inl (fun _ => 0))), (q4, .inl (c4, 30, .inl (fun _ => 0))), (q5, .inl (c5, 30, .inl (fun _ => 0))), (q6, .inl (c6, 5, .inl (fun _ => 0))), (q10, .inl (c10, 61, .inl (fun _ => 0))), (q11, .inl (c11, 61000, .inl (fun _ => 0))), (q12, .inl (c12, 7500, .inl (fun _ => 0))), (q14, .inl (c14, 7500, .inl (fun _ => 0))), (q16, .inl (c16, 60, .inl (fun _ => 0)))] H := hP
  have hD : va_D A [(h0, .inr (1, [.int 0, .ref q1, .ref q2, .int 0, .ref q4, .ref q5, .ref q6, .int 2, .int 0, .int 0, .ref q10, .ref q11, .ref q12, .int 0, .ref q14, .int 0, .null, .int 0, .int 0, .int 0, .null, .null, .int 0, .int 0, .null, .null, .null])), (q1, .inl (c1, 5, .inl (fun _ => 0))), (q2, .inl (c2, 5, .inl (fun _ => 0))), (q4, .inl (c4, 30, .inl (fun _ => 0))), (q5, .inl (c5, 30, .inl (fun _ => 0))), (q6, .inl (c6, 5, .inl (fun _ => 0))), (q10, .inl (c10, 61, .inl (fun _ => 0))), (q11, .inl (c11, 61000, .inl (fun _ => 0))), (q12, .inl (c12, 7500, .inl (fun _ => 0))), (q14, .inl (c14, 7500, .inl (fun _ => 0))), (q16, .inl (c16, 60, .inl (fun _ => 0)))] := hD
  refine W.widen (k := 10) (n := 76196) (by decide) (by decide) ?_
  refine va_putF (ci := 1) (v := .ref q16) (C := "CoverRoundsModel") (T := F_m) (N := 27) hx hb hts xin_m t_m xtok_m xnm_m hown hK hP hD hS 0 rfl rfl 16 (by decide) (hts _ (xfl_m 16 (by decide))) (fun _ h9 => h9) rfl hin rfl (xtok_m 16 (by decide)) rfl rfl (Nat.le_of_ble_eq_true rfl) d_m_init_85.1 (fun H locs hP hD hS => ?_)
  have hP : va_P D classes [(h0, .inr (1, [.int 0, .ref q1, .ref q2, .int 0, .ref q4, .ref q5, .ref q6, .int 2, .int 0, .int 0, .ref q10, .ref q11, .ref q12, .int 0, .ref q14, .int 0, .ref q16, .int 0, .int 0, .int 0, .null, .null, .int 0, .int 0, .null, .null, .null])), (q1, .inl (c1, 5, .inl (fun _ => 0))), (q2, .inl (c2, 5, .inl (fun _ => 0))), (q4, .inl (c4, 30, .inl (fun _ => 0))), (q5, .inl (c5, 30, .inl (fun _ => 0))), (q6, .inl (c6, 5, .inl (fun _ => 0))), (q10, .inl (c10, 61, .inl (fun _ => 0))), (q11, .inl (c11, 61000, .inl (fun _ => 0))), (q12, .inl (c12, 7500, .inl (fun _ => 0))), (q14, .inl (c14, 7500, .inl (fun _ => 0))), (q16, .inl (c16, 60, .inl (fun _ => 0)))] H := hP
  have hD : va_D A [(h0, .inr (1, [.int 0, .ref q1, .ref q2, .int 0, .ref q4, .ref q5, .ref q6, .int 2, .int 0, .int 0, .ref q10, .ref q11, .ref q12, .int 0, .ref q14, .int 0, .ref q16, .int 0, .int 0, .int 0, .null, .null, .int 0, .int 0, .null, .null, .null])), (q1, .inl (c1, 5, .inl (fun _ => 0))), (q2, .inl (c2, 5, .inl (fun _ => 0))), (q4, .inl (c4, 30, .inl (fun _ => 0))), (q5, .inl (c5, 30, .inl (fun _ => 0))), (q6, .inl (c6, 5, .inl (fun _ => 0))), (q10, .inl (c10, 61, .inl (fun _ => 0))), (q11, .inl (c11, 61000, .inl (fun _ => 0))), (q12, .inl (c12, 7500, .inl (fun _ => 0))), (q14, .inl (c14, 7500, .inl (fun _ => 0))), (q16, .inl (c16, 60, .inl (fun _ => 0)))] := hD
  refine lv_aload_n hx hb d_m_init_88.1 rfl (lv_at hl 0 rfl) ?_
  refine lv_sipush (v := 5005) hx hb d_m_init_89.1 (by decide) ?_
  refine va_newa (atype := .int) (ty := .int) (a0 := (5005, .inl (fun _ => 0))) hx hb (hts _ tb_aint) rfl hK hP hD hS hA (fun _ => rfl) (by decide) (by decide) (by decide) (Nat.le_of_ble_eq_true rfl) (Nat.le_of_ble_eq_true rfl) d_m_init_92.1 (fun q20 c20 H hK hP hD hS => ?_)
  have hK : va_K D classes [(c1, .int), (c2, .int), (c4, .int), (c5, .int), (c6, .int), (c10, .int), (c11, .int), (c12, .int), (c14, .int), (c16, .int), (c20, .int)] s := hK
  have hP : va_P D classes [(h0, .inr (1, [.int 0, .ref q1, .ref q2, .int 0, .ref q4, .ref q5, .ref q6, .int 2, .int 0, .int 0, .ref q10, .ref q11, .ref q12, .int 0, .ref q14, .int 0, .ref q16, .int 0, .int 0, .int 0, .null, .null, .int 0, .int 0, .null, .null, .null])), (q1, .inl (c1, 5, .inl (fun _ => 0))), (q2, .inl (c2, 5, .inl (fun _ => 0))), (q4, .inl (c4, 30, .inl (fun _ => 0))), (q5, .inl (c5, 30, .inl (fun _ => 0))), (q6, .inl (c6, 5, .inl (fun _ => 0))), (q10, .inl (c10, 61, .inl (fun _ => 0))), (q11, .inl (c11, 61000, .inl (fun _ => 0))), (q12, .inl (c12, 7500, .inl (fun _ => 0))), (q14, .inl (c14, 7500, .inl (fun _ => 0))), (q16, .inl (c16, 60, .inl (fun _ => 0))), (q20, .inl (c20, 5005, .inl (fun _ => 0)))] H := hP
  have hD : va_D A [(h0, .inr (1, [.int 0, .ref q1, .ref q2, .int 0, .ref q4, .ref q5, .ref q6, .int 2, .int 0, .int 0, .ref q10, .ref q11, .ref q12, .int 0, .ref q14, .int 0, .ref q16, .int 0, .int 0, .int 0, .null, .null, .int 0, .int 0, .null, .null, .null])), (q1, .inl (c1, 5, .inl (fun _ => 0))), (q2, .inl (c2, 5, .inl (fun _ => 0))), (q4, .inl (c4, 30, .inl (fun _ => 0))), (q5, .inl (c5, 30, .inl (fun _ => 0))), (q6, .inl (c6, 5, .inl (fun _ => 0))), (q10, .inl (c10, 61, .inl (fun _ => 0))), (q11, .inl (c11, 61000, .inl (fun _ => 0))), (q12, .inl (c12, 7500, .inl (fun _ => 0))), (q14, .inl (c14, 7500, .inl (fun _ => 0))), (q16, .inl (c16, 60, .inl (fun _ => 0))), (q20, .inl (c20, 5005, .inl (fun _ => 0)))] := hD
  refine W.widen (k := 11) (n := 81201) (by decide) (by decide) ?_
  refine va_putF (ci := 1) (v := .ref q20) (C := "CoverRoundsModel") (T := F_m) (N := 27) hx hb hts xin_m t_m xtok_m xnm_m hown hK hP hD hS 0 rfl rfl 20 (by decide) (hts _ (xfl_m 20 (by decide))) (fun _ h9 => h9) rfl hin rfl (xtok_m 20 (by decide)) rfl rfl (Nat.le_of_ble_eq_true rfl) d_m_init_94.1 (fun H locs hP hD hS => ?_)
  have hP : va_P D classes [(h0, .inr (1, [.int 0, .ref q1, .ref q2, .int 0, .ref q4, .ref q5, .ref q6, .int 2, .int 0, .int 0, .ref q10, .ref q11, .ref q12, .int 0, .ref q14, .int 0, .ref q16, .int 0, .int 0, .int 0, .ref q20, .null, .int 0, .int 0, .null, .null, .null])), (q1, .inl (c1, 5, .inl (fun _ => 0))), (q2, .inl (c2, 5, .inl (fun _ => 0))), (q4, .inl (c4, 30, .inl (fun _ => 0))), (q5, .inl (c5, 30, .inl (fun _ => 0))), (q6, .inl (c6, 5, .inl (fun _ => 0))), (q10, .inl (c10, 61, .inl (fun _ => 0))), (q11, .inl (c11, 61000, .inl (fun _ => 0))), (q12, .inl (c12, 7500, .inl (fun _ => 0))), (q14, .inl (c14, 7500, .inl (fun _ => 0))), (q16, .inl (c16, 60, .inl (fun _ => 0))), (q20, .inl (c20, 5005, .inl (fun _ => 0)))] H := hP
  have hD : va_D A [(h0, .inr (1, [.int 0, .ref q1, .ref q2, .int 0, .ref q4, .ref q5, .ref q6, .int 2, .int 0, .int 0, .ref q10, .ref q11, .ref q12, .int 0, .ref q14, .int 0, .ref q16, .int 0, .int 0, .int 0, .ref q20, .null, .int 0, .int 0, .null, .null, .null])), (q1, .inl (c1, 5, .inl (fun _ => 0))), (q2, .inl (c2, 5, .inl (fun _ => 0))), (q4, .inl (c4, 30, .inl (fun _ => 0))), (q5, .inl (c5, 30, .inl (fun _ => 0))), (q6, .inl (c6, 5, .inl (fun _ => 0))), (q10, .inl (c10, 61, .inl (fun _ => 0))), (q11, .inl (c11, 61000, .inl (fun _ => 0))), (q12, .inl (c12, 7500, .inl (fun _ => 0))), (q14, .inl (c14, 7500, .inl (fun _ => 0))), (q16, .inl (c16, 60, .inl (fun _ => 0))), (q20, .inl (c20, 5005, .inl (fun _ => 0)))] := hD
  refine lv_aload_n hx hb d_m_init_97.1 rfl (lv_at hl 0 rfl) ?_
  refine lv_sipush (v := 1001) hx hb d_m_init_98.1 (by decide) ?_
  refine va_newa (atype := .int) (ty := .int) (a0 := (1001, .inl (fun _ => 0))) hx hb (hts _ tb_aint) rfl hK hP hD hS hA (fun _ => rfl) (by decide) (by decide) (by decide) (Nat.le_of_ble_eq_true rfl) (Nat.le_of_ble_eq_true rfl) d_m_init_101.1 (fun q21 c21 H hK hP hD hS => ?_)
  have hK : va_K D classes [(c1, .int), (c2, .int), (c4, .int), (c5, .int), (c6, .int), (c10, .int), (c11, .int), (c12, .int), (c14, .int), (c16, .int), (c20, .int), (c21, .int)] s := hK
  have hP : va_P D classes [(h0, .inr (1, [.int 0, .ref q1, .ref q2, .int 0, .ref q4, .ref q5, .ref q6, .int 2, .int 0, .int 0, .ref q10, .ref q11, .ref q12, .int 0, .ref q14, .int 0, .ref q16, .int 0, .int 0, .int 0, .ref q20, .null, .int 0, .int 0, .null, .null, .null])), (q1, .inl (c1, 5, .inl (fun _ => 0))), (q2, .inl (c2, 5, .inl (fun _ => 0))), (q4, .inl (c4, 30, .inl (fun _ => 0))), (q5, .inl (c5, 30, .inl (fun _ => 0))), (q6, .inl (c6, 5, .inl (fun _ => 0))), (q10, .inl (c10, 61, .inl (fun _ => 0))), (q11, .inl (c11, 61000, .inl (fun _ => 0))), (q12, .inl (c12, 7500, .inl (fun _ => 0))), (q14, .inl (c14, 7500, .inl (fun _ => 0))), (q16, .inl (c16, 60, .inl (fun _ => 0))), (q20, .inl (c20, 5005, .inl (fun _ => 0))), (q21, .inl (c21, 1001, .inl (fun _ => 0)))] H := hP
  have hD : va_D A [(h0, .inr (1, [.int 0, .ref q1, .ref q2, .int 0, .ref q4, .ref q5, .ref q6, .int 2, .int 0, .int 0, .ref q10, .ref q11, .ref q12, .int 0, .ref q14, .int 0, .ref q16, .int 0, .int 0, .int 0, .ref q20, .null, .int 0, .int 0, .null, .null, .null])), (q1, .inl (c1, 5, .inl (fun _ => 0))), (q2, .inl (c2, 5, .inl (fun _ => 0))), (q4, .inl (c4, 30, .inl (fun _ => 0))), (q5, .inl (c5, 30, .inl (fun _ => 0))), (q6, .inl (c6, 5, .inl (fun _ => 0))), (q10, .inl (c10, 61, .inl (fun _ => 0))), (q11, .inl (c11, 61000, .inl (fun _ => 0))), (q12, .inl (c12, 7500, .inl (fun _ => 0))), (q14, .inl (c14, 7500, .inl (fun _ => 0))), (q16, .inl (c16, 60, .inl (fun _ => 0))), (q20, .inl (c20, 5005, .inl (fun _ => 0))), (q21, .inl (c21, 1001, .inl (fun _ => 0)))] := hD
  refine W.widen (k := 12) (n := 82202) (by decide) (by decide) ?_
  refine va_putF (ci := 1) (v := .ref q21) (C := "CoverRoundsModel") (T := F_m) (N := 27) hx hb hts xin_m t_m xtok_m xnm_m hown hK hP hD hS 0 rfl rfl 21 (by decide) (hts _ (xfl_m 21 (by decide))) (fun _ h9 => h9) rfl hin rfl (xtok_m 21 (by decide)) rfl rfl (Nat.le_of_ble_eq_true rfl) d_m_init_103.1 (fun H locs hP hD hS => ?_)
  have hP : va_P D classes [(h0, .inr (1, [.int 0, .ref q1, .ref q2, .int 0, .ref q4, .ref q5, .ref q6, .int 2, .int 0, .int 0, .ref q10, .ref q11, .ref q12, .int 0, .ref q14, .int 0, .ref q16, .int 0, .int 0, .int 0, .ref q20, .ref q21, .int 0, .int 0, .null, .null, .null])), (q1, .inl (c1, 5, .inl (fun _ => 0))), (q2, .inl (c2, 5, .inl (fun _ => 0))), (q4, .inl (c4, 30, .inl (fun _ => 0))), (q5, .inl (c5, 30, .inl (fun _ => 0))), (q6, .inl (c6, 5, .inl (fun _ => 0))), (q10, .inl (c10, 61, .inl (fun _ => 0))), (q11, .inl (c11, 61000, .inl (fun _ => 0))), (q12, .inl (c12, 7500, .inl (fun _ => 0))), (q14, .inl (c14, 7500, .inl (fun _ => 0))), (q16, .inl (c16, 60, .inl (fun _ => 0))), (q20, .inl (c20, 5005, .inl (fun _ => 0))), (q21, .inl (c21, 1001, .inl (fun _ => 0)))] H := hP
  have hD : va_D A [(h0, .inr (1, [.int 0, .ref q1, .ref q2, .int 0, .ref q4, .ref q5, .ref q6, .int 2, .int 0, .int 0, .ref q10, .ref q11, .ref q12, .int 0, .ref q14, .int 0, .ref q16, .int 0, .int 0, .int 0, .ref q20, .ref q21, .int 0, .int 0, .null, .null, .null])), (q1, .inl (c1, 5, .inl (fun _ => 0))), (q2, .inl (c2, 5, .inl (fun _ => 0))), (q4, .inl (c4, 30, .inl (fun _ => 0))), (q5, .inl (c5, 30, .inl (fun _ => 0))), (q6, .inl (c6, 5, .inl (fun _ => 0))), (q10, .inl (c10, 61, .inl (fun _ => 0))), (q11, .inl (c11, 61000, .inl (fun _ => 0))), (q12, .inl (c12, 7500, .inl (fun _ => 0))), (q14, .inl (c14, 7500, .inl (fun _ => 0))), (q16, .inl (c16, 60, .inl (fun _ => 0))), (q20, .inl (c20, 5005, .inl (fun _ => 0))), (q21, .inl (c21, 1001, .inl (fun _ => 0)))] := hD
  refine lv_aload_n hx hb d_m_init_106.1 rfl (lv_at hl 0 rfl) ?_
  refine lv_sipush (v := 1001) hx hb d_m_init_107.1 (by decide) ?_
  refine va_newa (atype := .int) (ty := .int) (a0 := (1001, .inl (fun _ => 0))) hx hb (hts _ tb_aint) rfl hK hP hD hS hA (fun _ => rfl) (by decide) (by decide) (by decide) (Nat.le_of_ble_eq_true rfl) (Nat.le_of_ble_eq_true rfl) d_m_init_110.1 (fun q24 c24 H hK hP hD hS => ?_)
  have hK : va_K D classes [(c1, .int), (c2, .int), (c4, .int), (c5, .int), (c6, .int), (c10, .int), (c11, .int), (c12, .int), (c14, .int), (c16, .int), (c20, .int), (c21, .int), (c24, .int)] s := hK
  have hP : va_P D classes [(h0, .inr (1, [.int 0, .ref q1, .ref q2, .int 0, .ref q4, .ref q5, .ref q6, .int 2, .int 0, .int 0, .ref q10, .ref q11, .ref q12, .int 0, .ref q14, .int 0, .ref q16, .int 0, .int 0, .int 0, .ref q20, .ref q21, .int 0, .int 0, .null, .null, .null])), (q1, .inl (c1, 5, .inl (fun _ => 0))), (q2, .inl (c2, 5, .inl (fun _ => 0))), (q4, .inl (c4, 30, .inl (fun _ => 0))), (q5, .inl (c5, 30, .inl (fun _ => 0))), (q6, .inl (c6, 5, .inl (fun _ => 0))), (q10, .inl (c10, 61, .inl (fun _ => 0))), (q11, .inl (c11, 61000, .inl (fun _ => 0))), (q12, .inl (c12, 7500, .inl (fun _ => 0))), (q14, .inl (c14, 7500, .inl (fun _ => 0))), (q16, .inl (c16, 60, .inl (fun _ => 0))), (q20, .inl (c20, 5005, .inl (fun _ => 0))), (q21, .inl (c21, 1001, .inl (fun _ => 0))), (q24, .inl (c24, 1001, .inl (fun _ => 0)))] H := hP
  have hD : va_D A [(h0, .inr (1, [.int 0, .ref q1, .ref q2, .int 0, .ref q4, .ref q5, .ref q6, .int 2, .int 0, .int 0, .ref q10, .ref q11, .ref q12, .int 0, .ref q14, .int 0, .ref q16, .int 0, .int 0, .int 0, .ref q20, .ref q21, .int 0, .int 0, .null, .null, .null])), (q1, .inl (c1, 5, .inl (fun _ => 0))), (q2, .inl (c2, 5, .inl (fun _ => 0))), (q4, .inl (c4, 30, .inl (fun _ => 0))), (q5, .inl (c5, 30, .inl (fun _ => 0))), (q6, .inl (c6, 5, .inl (fun _ => 0))), (q10, .inl (c10, 61, .inl (fun _ => 0))), (q11, .inl (c11, 61000, .inl (fun _ => 0))), (q12, .inl (c12, 7500, .inl (fun _ => 0))), (q14, .inl (c14, 7500, .inl (fun _ => 0))), (q16, .inl (c16, 60, .inl (fun _ => 0))), (q20, .inl (c20, 5005, .inl (fun _ => 0))), (q21, .inl (c21, 1001, .inl (fun _ => 0))), (q24, .inl (c24, 1001, .inl (fun _ => 0)))] := hD
  refine W.widen (k := 13) (n := 83203) (by decide) (by decide) ?_
  refine va_putF (ci := 1) (v := .ref q24) (C := "CoverRoundsModel") (T := F_m) (N := 27) hx hb hts xin_m t_m xtok_m xnm_m hown hK hP hD hS 0 rfl rfl 24 (by decide) (hts _ (xfl_m 24 (by decide))) (fun _ h9 => h9) rfl hin rfl (xtok_m 24 (by decide)) rfl rfl (Nat.le_of_ble_eq_true rfl) d_m_init_112.1 (fun H locs hP hD hS => ?_)
  have hP : va_P D classes [(h0, .inr (1, [.int 0, .ref q1, .ref q2, .int 0, .ref q4, .ref q5, .ref q6, .int 2, .int 0, .int 0, .ref q10, .ref q11, .ref q12, .int 0, .ref q14, .int 0, .ref q16, .int 0, .int 0, .int 0, .ref q20, .ref q21, .int 0, .int 0, .ref q24, .null, .null])), (q1, .inl (c1, 5, .inl (fun _ => 0))), (q2, .inl (c2, 5, .inl (fun _ => 0))), (q4, .inl (c4, 30, .inl (fun _ => 0))), (q5, .inl (c5, 30, .inl (fun _ => 0))), (q6, .inl (c6, 5, .inl (fun _ => 0))), (q10, .inl (c10, 61, .inl (fun _ => 0))), (q11, .inl (c11, 61000, .inl (fun _ => 0))), (q12, .inl (c12, 7500, .inl (fun _ => 0))), (q14, .inl (c14, 7500, .inl (fun _ => 0))), (q16, .inl (c16, 60, .inl (fun _ => 0))), (q20, .inl (c20, 5005, .inl (fun _ => 0))), (q21, .inl (c21, 1001, .inl (fun _ => 0))), (q24, .inl (c24, 1001, .inl (fun _ => 0)))] H := hP
  have hD : va_D A [(h0, .inr (1, [.int 0, .ref q1, .ref q2, .int 0, .ref q4, .ref q5, .ref q6, .int 2, .int 0, .int 0, .ref q10, .ref q11, .ref q12, .int 0, .ref q14, .int 0, .ref q16, .int 0, .int 0, .int 0, .ref q20, .ref q21, .int 0, .int 0, .ref q24, .null, .null])), (q1, .inl (c1, 5, .inl (fun _ => 0))), (q2, .inl (c2, 5, .inl (fun _ => 0))), (q4, .inl (c4, 30, .inl (fun _ => 0))), (q5, .inl (c5, 30, .inl (fun _ => 0))), (q6, .inl (c6, 5, .inl (fun _ => 0))), (q10, .inl (c10, 61, .inl (fun _ => 0))), (q11, .inl (c11, 61000, .inl (fun _ => 0))), (q12, .inl (c12, 7500, .inl (fun _ => 0))), (q14, .inl (c14, 7500, .inl (fun _ => 0))), (q16, .inl (c16, 60, .inl (fun _ => 0))), (q20, .inl (c20, 5005, .inl (fun _ => 0))), (q21, .inl (c21, 1001, .inl (fun _ => 0))), (q24, .inl (c24, 1001, .inl (fun _ => 0)))] := hD
  refine lv_aload_n hx hb d_m_init_115.1 rfl (lv_at hl 0 rfl) ?_
  refine lv_iconst (v := 5) hx hb d_m_init_116.1 (by decide) ?_
  refine va_newa (atype := .int) (ty := .int) (a0 := (5, .inl (fun _ => 0))) hx hb (hts _ tb_aint) rfl hK hP hD hS hA (fun _ => rfl) (by decide) (by decide) (by decide) (Nat.le_of_ble_eq_true rfl) (Nat.le_of_ble_eq_true rfl) d_m_init_117.1 (fun q25 c25 H hK hP hD hS => ?_)
  have hK : va_K D classes [(c1, .int), (c2, .int), (c4, .int), (c5, .int), (c6, .int), (c10, .int), (c11, .int), (c12, .int), (c14, .int), (c16, .int), (c20, .int), (c21, .int), (c24, .int), (c25, .int)] s := hK
  have hP : va_P D classes [(h0, .inr (1, [.int 0, .ref q1, .ref q2, .int 0, .ref q4, .ref q5, .ref q6, .int 2, .int 0, .int 0, .ref q10, .ref q11, .ref q12, .int 0, .ref q14, .int 0, .ref q16, .int 0, .int 0, .int 0, .ref q20, .ref q21, .int 0, .int 0, .ref q24, .null, .null])), (q1, .inl (c1, 5, .inl (fun _ => 0))), (q2, .inl (c2, 5, .inl (fun _ => 0))), (q4, .inl (c4, 30, .inl (fun _ => 0))), (q5, .inl (c5, 30, .inl (fun _ => 0))), (q6, .inl (c6, 5, .inl (fun _ => 0))), (q10, .inl (c10, 61, .inl (fun _ => 0))), (q11, .inl (c11, 61000, .inl (fun _ => 0))), (q12, .inl (c12, 7500, .inl (fun _ => 0))), (q14, .inl (c14, 7500, .inl (fun _ => 0))), (q16, .inl (c16, 60, .inl (fun _ => 0))), (q20, .inl (c20, 5005, .inl (fun _ => 0))), (q21, .inl (c21, 1001, .inl (fun _ => 0))), (q24, .inl (c24, 1001, .inl (fun _ => 0))), (q25, .inl (c25, 5, .inl (fun _ => 0)))] H := hP
  have hD : va_D A [(h0, .inr (1, [.int 0, .ref q1, .ref q2, .int 0, .ref q4, .ref q5, .ref q6, .int 2, .int 0, .int 0, .ref q10, .ref q11, .ref q12, .int 0, .ref q14, .int 0, .ref q16, .int 0, .int 0, .int 0, .ref q20, .ref q21, .int 0, .int 0, .ref q24, .null, .null])), (q1, .inl (c1, 5, .inl (fun _ => 0))), (q2, .inl (c2, 5, .inl (fun _ => 0))), (q4, .inl (c4, 30, .inl (fun _ => 0))), (q5, .inl (c5, 30, .inl (fun _ => 0))), (q6, .inl (c6, 5, .inl (fun _ => 0))), (q10, .inl (c10, 61, .inl (fun _ => 0))), (q11, .inl (c11, 61000, .inl (fun _ => 0))), (q12, .inl (c12, 7500, .inl (fun _ => 0))), (q14, .inl (c14, 7500, .inl (fun _ => 0))), (q16, .inl (c16, 60, .inl (fun _ => 0))), (q20, .inl (c20, 5005, .inl (fun _ => 0))), (q21, .inl (c21, 1001, .inl (fun _ => 0))), (q24, .inl (c24, 1001, .inl (fun _ => 0))), (q25, .inl (c25, 5, .inl (fun _ => 0)))] := hD
  refine W.widen (k := 14) (n := 83208) (by decide) (by decide) ?_
  refine va_putF (ci := 1) (v := .ref q25) (C := "CoverRoundsModel") (T := F_m) (N := 27) hx hb hts xin_m t_m xtok_m xnm_m hown hK hP hD hS 0 rfl rfl 25 (by decide) (hts _ (xfl_m 25 (by decide))) (fun _ h9 => h9) rfl hin rfl (xtok_m 25 (by decide)) rfl rfl (Nat.le_of_ble_eq_true rfl) d_m_init_119.1 (fun H locs hP hD hS => ?_)
  have hP : va_P D classes [(h0, .inr (1, [.int 0, .ref q1, .ref q2, .int 0, .ref q4, .ref q5, .ref q6, .int 2, .int 0, .int 0, .ref q10, .ref q11, .ref q12, .int 0, .ref q14, .int 0, .ref q16, .int 0, .int 0, .int 0, .ref q20, .ref q21, .int 0, .int 0, .ref q24, .ref q25, .null])), (q1, .inl (c1, 5, .inl (fun _ => 0))), (q2, .inl (c2, 5, .inl (fun _ => 0))), (q4, .inl (c4, 30, .inl (fun _ => 0))), (q5, .inl (c5, 30, .inl (fun _ => 0))), (q6, .inl (c6, 5, .inl (fun _ => 0))), (q10, .inl (c10, 61, .inl (fun _ => 0))), (q11, .inl (c11, 61000, .inl (fun _ => 0))), (q12, .inl (c12, 7500, .inl (fun _ => 0))), (q14, .inl (c14, 7500, .inl (fun _ => 0))), (q16, .inl (c16, 60, .inl (fun _ => 0))), (q20, .inl (c20, 5005, .inl (fun _ => 0))), (q21, .inl (c21, 1001, .inl (fun _ => 0))), (q24, .inl (c24, 1001, .inl (fun _ => 0))), (q25, .inl (c25, 5, .inl (fun _ => 0)))] H := hP
  have hD : va_D A [(h0, .inr (1, [.int 0, .ref q1, .ref q2, .int 0, .ref q4, .ref q5, .ref q6, .int 2, .int 0, .int 0, .ref q10, .ref q11, .ref q12, .int 0, .ref q14, .int 0, .ref q16, .int 0, .int 0, .int 0, .ref q20, .ref q21, .int 0, .int 0, .ref q24, .ref q25, .null])), (q1, .inl (c1, 5, .inl (fun _ => 0))), (q2, .inl (c2, 5, .inl (fun _ => 0))), (q4, .inl (c4, 30, .inl (fun _ => 0))), (q5, .inl (c5, 30, .inl (fun _ => 0))), (q6, .inl (c6, 5, .inl (fun _ => 0))), (q10, .inl (c10, 61, .inl (fun _ => 0))), (q11, .inl (c11, 61000, .inl (fun _ => 0))), (q12, .inl (c12, 7500, .inl (fun _ => 0))), (q14, .inl (c14, 7500, .inl (fun _ => 0))), (q16, .inl (c16, 60, .inl (fun _ => 0))), (q20, .inl (c20, 5005, .inl (fun _ => 0))), (q21, .inl (c21, 1001, .inl (fun _ => 0))), (q24, .inl (c24, 1001, .inl (fun _ => 0))), (q25, .inl (c25, 5, .inl (fun _ => 0)))] := hD
  refine lv_aload_n hx hb d_m_init_122.1 rfl (lv_at hl 0 rfl) ?_
  refine lv_iconst (v := 5) hx hb d_m_init_123.1 (by decide) ?_
  refine va_newa (atype := .int) (ty := .int) (a0 := (5, .inl (fun _ => 0))) hx hb (hts _ tb_aint) rfl hK hP hD hS hA (fun _ => rfl) (by decide) (by decide) (by decide) (Nat.le_of_ble_eq_true rfl) (Nat.le_of_ble_eq_true rfl) d_m_init_124.1 (fun q26 c26 H hK hP hD hS => ?_)
  have hK : va_K D classes [(c1, .int), (c2, .int), (c4, .int), (c5, .int), (c6, .int), (c10, .int), (c11, .int), (c12, .int), (c14, .int), (c16, .int), (c20, .int), (c21, .int), (c24, .int), (c25, .int), (c26, .int)] s := hK
  have hP : va_P D classes [(h0, .inr (1, [.int 0, .ref q1, .ref q2, .int 0, .ref q4, .ref q5, .ref q6, .int 2, .int 0, .int 0, .ref q10, .ref q11, .ref q12, .int 0, .ref q14, .int 0, .ref q16, .int 0, .int 0, .int 0, .ref q20, .ref q21, .int 0, .int 0, .ref q24, .ref q25, .null])), (q1, .inl (c1, 5, .inl (fun _ => 0))), (q2, .inl (c2, 5, .inl (fun _ => 0))), (q4, .inl (c4, 30, .inl (fun _ => 0))), (q5, .inl (c5, 30, .inl (fun _ => 0))), (q6, .inl (c6, 5, .inl (fun _ => 0))), (q10, .inl (c10, 61, .inl (fun _ => 0))), (q11, .inl (c11, 61000, .inl (fun _ => 0))), (q12, .inl (c12, 7500, .inl (fun _ => 0))), (q14, .inl (c14, 7500, .inl (fun _ => 0))), (q16, .inl (c16, 60, .inl (fun _ => 0))), (q20, .inl (c20, 5005, .inl (fun _ => 0))), (q21, .inl (c21, 1001, .inl (fun _ => 0))), (q24, .inl (c24, 1001, .inl (fun _ => 0))), (q25, .inl (c25, 5, .inl (fun _ => 0))), (q26, .inl (c26, 5, .inl (fun _ => 0)))] H := hP
  have hD : va_D A [(h0, .inr (1, [.int 0, .ref q1, .ref q2, .int 0, .ref q4, .ref q5, .ref q6, .int 2, .int 0, .int 0, .ref q10, .ref q11, .ref q12, .int 0, .ref q14, .int 0, .ref q16, .int 0, .int 0, .int 0, .ref q20, .ref q21, .int 0, .int 0, .ref q24, .ref q25, .null])), (q1, .inl (c1, 5, .inl (fun _ => 0))), (q2, .inl (c2, 5, .inl (fun _ => 0))), (q4, .inl (c4, 30, .inl (fun _ => 0))), (q5, .inl (c5, 30, .inl (fun _ => 0))), (q6, .inl (c6, 5, .inl (fun _ => 0))), (q10, .inl (c10, 61, .inl (fun _ => 0))), (q11, .inl (c11, 61000, .inl (fun _ => 0))), (q12, .inl (c12, 7500, .inl (fun _ => 0))), (q14, .inl (c14, 7500, .inl (fun _ => 0))), (q16, .inl (c16, 60, .inl (fun _ => 0))), (q20, .inl (c20, 5005, .inl (fun _ => 0))), (q21, .inl (c21, 1001, .inl (fun _ => 0))), (q24, .inl (c24, 1001, .inl (fun _ => 0))), (q25, .inl (c25, 5, .inl (fun _ => 0))), (q26, .inl (c26, 5, .inl (fun _ => 0)))] := hD
  refine W.widen (k := 15) (n := 83213) (by decide) (by decide) ?_
  refine va_putF (ci := 1) (v := .ref q26) (C := "CoverRoundsModel") (T := F_m) (N := 27) hx hb hts xin_m t_m xtok_m xnm_m hown hK hP hD hS 0 rfl rfl 26 (by decide) (hts _ (xfl_m 26 (by decide))) (fun _ h9 => h9) rfl hin rfl (xtok_m 26 (by decide)) rfl rfl (Nat.le_of_ble_eq_true rfl) d_m_init_126.1 (fun H locs hP hD hS => ?_)
  have hP : va_P D classes [(h0, .inr (1, [.int 0, .ref q1, .ref q2, .int 0, .ref q4, .ref q5, .ref q6, .int 2, .int 0, .int 0, .ref q10, .ref q11, .ref q12, .int 0, .ref q14, .int 0, .ref q16, .int 0, .int 0, .int 0, .ref q20, .ref q21, .int 0, .int 0, .ref q24, .ref q25, .ref q26])), (q1, .inl (c1, 5, .inl (fun _ => 0))), (q2, .inl (c2, 5, .inl (fun _ => 0))), (q4, .inl (c4, 30, .inl (fun _ => 0))), (q5, .inl (c5, 30, .inl (fun _ => 0))), (q6, .inl (c6, 5, .inl (fun _ => 0))), (q10, .inl (c10, 61, .inl (fun _ => 0))), (q11, .inl (c11, 61000, .inl (fun _ => 0))), (q12, .inl (c12, 7500, .inl (fun _ => 0))), (q14, .inl (c14, 7500, .inl (fun _ => 0))), (q16, .inl (c16, 60, .inl (fun _ => 0))), (q20, .inl (c20, 5005, .inl (fun _ => 0))), (q21, .inl (c21, 1001, .inl (fun _ => 0))), (q24, .inl (c24, 1001, .inl (fun _ => 0))), (q25, .inl (c25, 5, .inl (fun _ => 0))), (q26, .inl (c26, 5, .inl (fun _ => 0)))] H := hP
  have hD : va_D A [(h0, .inr (1, [.int 0, .ref q1, .ref q2, .int 0, .ref q4, .ref q5, .ref q6, .int 2, .int 0, .int 0, .ref q10, .ref q11, .ref q12, .int 0, .ref q14, .int 0, .ref q16, .int 0, .int 0, .int 0, .ref q20, .ref q21, .int 0, .int 0, .ref q24, .ref q25, .ref q26])), (q1, .inl (c1, 5, .inl (fun _ => 0))), (q2, .inl (c2, 5, .inl (fun _ => 0))), (q4, .inl (c4, 30, .inl (fun _ => 0))), (q5, .inl (c5, 30, .inl (fun _ => 0))), (q6, .inl (c6, 5, .inl (fun _ => 0))), (q10, .inl (c10, 61, .inl (fun _ => 0))), (q11, .inl (c11, 61000, .inl (fun _ => 0))), (q12, .inl (c12, 7500, .inl (fun _ => 0))), (q14, .inl (c14, 7500, .inl (fun _ => 0))), (q16, .inl (c16, 60, .inl (fun _ => 0))), (q20, .inl (c20, 5005, .inl (fun _ => 0))), (q21, .inl (c21, 1001, .inl (fun _ => 0))), (q24, .inl (c24, 1001, .inl (fun _ => 0))), (q25, .inl (c25, 5, .inl (fun _ => 0))), (q26, .inl (c26, 5, .inl (fun _ => 0)))] := hD
  obtain ⟨qf, eq⟩ : ∃ z : Nat → Nat, z = (fun k => match k with
    | 0 => h0
    | 1 => q1
    | 2 => q2
    | 4 => q4
    | 5 => q5
    | 6 => q6
    | 10 => q10
    | 11 => q11
    | 12 => q12
    | 14 => q14
    | 16 => q16
    | 20 => q20
    | 21 => q21
    | 24 => q24
    | 25 => q25
    | 26 => q26
    | _ => h0) := ⟨_, rfl⟩
  obtain ⟨cf, ec⟩ : ∃ z : Nat → ClassId, z = (fun k => match k with
    | 0 => c1
    | 1 => c1
    | 2 => c2
    | 4 => c4
    | 5 => c5
    | 6 => c6
    | 10 => c10
    | 11 => c11
    | 12 => c12
    | 14 => c14
    | 16 => c16
    | 20 => c20
    | 21 => c21
    | 24 => c24
    | 25 => c25
    | 26 => c26
    | _ => c1) := ⟨_, rfl⟩
  have hP9 : va_P D classes (xw true qf cf m_0) H := by rw [eq, ec]; exact hP
  have hD9 : va_D A (xw true qf cf m_0) := by rw [eq, ec]; exact hD
  have hK9 : va_K D classes (xtys true cf) s := by rw [ec]; exact hK
  have e0 : qf 0 = h0 := by rw [eq]; rfl
  exact W.vret hx hb hr (fun t ht hW => ⟨⟨(qf, cf), rfl, e0, by rw [ht]; exact hP9, va_K.moved hW.alike hK9, hD9⟩, hS.F ht⟩) hS.2.2 d_m_init_129.1
end
section
/-! THE CLAIM OUT OF ONE WALK OF THE LAW'S BODY. Your part is whole_start (and what it stands on); all else here is the same for every law, but numbers. -/
def R_law : String := "CoverRoundsLaw"
def lw_P (b : Addr) (xs : List Int32) (args : Array Value) (s : State) : Prop := args = #[.ref b] ∧ s.IntsAt b xs ∧ xs.length ≤ 2560 ∧ (Jvm.Cond.and given_1 narrow_1).before args s = true
def lw_Q (_ : Array Value) (s : State) (o : Outcome) (t : State) : Prop := o = .returned (some (.int 1)) ∧ Framed s o t [] 600000 7302250
def lw_Z (below : List Frame) (a : Array Value) (s : State) : State → Prop := fun t => ∃ o, t.status = .running ∧ Ended t below o ∧ lw_Q a s o t
/-- the law's own end, with 1 on the stack, nothing written that was there before, its room as the claim has it -/
theorem lw_ret {p : Program} {l : Launch} {e : Env} {s : State} {m : MethodId} {below : List Frame} {meth : Method} {c : Code} {b : Nat} (hx : p.tables.exec = Jvm.exec) (hb : c.code = code) (hr : meth.sig.returnType = ret) (hlocks : meth.locks = false) {pc : Nat} {H : Heap} {ls : Array Slot} (hdg : decode code pc = .ok (.ireturn, 1)) : W p l e room_1 s m #[Value.ref b] below meth c H [] 600000 7302250 (lw_Z below #[Value.ref b] s) (F0 m pc ls [.int 1]) := by
  intro T hT X
  obtain ⟨fs, hret, hrun, hended, hW, hframe⟩ := X.leave (v := some (.int 1)) (hlocks := hlocks) (fun h => by rw [hr] at h; cases h)
  have hmeth' : T.vm.method? m = some meth := X.method'
  refine ⟨T.setFrames fs, ?_, .returned (some (.int 1)), hrun, hended, rfl, ⟨_, rfl⟩, hW, hframe⟩
  jvm_step X.here [X.here.top, hx, hb, hdg, hmeth', hr, ret, narrow_b1]
  (try refine ⟨rfl, ?_⟩); (try refine ⟨rfl, ?_⟩)
  first | (intro acts; rw [hret _ acts rfl rfl rfl]) | rw [hret _ _ rfl rfl rfl]
  exact Steps.refl _
/-- what holds at the law's entry: the machine, the code, the tables' words (any of lw_tbl by 'hts w (by decide +kernel)'), the script of L ints xs at the cell b, what the Statement gives of the start (any of its parts by flat_of_before) -/
def lw_At (p : Program) (s : State) (m : MethodId) (meth : Method) (c : Code) (b L : Nat) (xs : Nat → Int32) : Prop :=
  p.tables.exec = Jvm.exec ∧ c.code = code ∧ meth.sig.returnType = ret ∧ c.maxLocals = 4 ∧ s.vm.findClass R_law = some m.cls ∧ (∀ w ∈ lw_tbl, w.before #[Value.ref b] s = true) ∧ va_X b L xs s s.heap ∧ b < s.heap.size ∧ meth.locks = false ∧ (Jvm.Cond.and given_1 narrow_1).before #[Value.ref b] s = true
end
section
theorem d_law_0 : xd code 0 (.new 7) 3 3 := ⟨by decide +kernel, rfl⟩
theorem d_law_3 : xd code 3 (.dup) 1 4 := ⟨by decide +kernel, rfl⟩
theorem d_law_4 : xd code 4 (.invokespecial 9) 3 7 := ⟨by decide +kernel, rfl⟩
theorem d_law_7 : xd code 7 (.astore_n 1) 1 8 := ⟨by decide +kernel, rfl⟩
theorem d_law_8 : xd code 8 (.new 10) 3 11 := ⟨by decide +kernel, rfl⟩
theorem d_law_11 : xd code 11 (.dup) 1 12 := ⟨by decide +kernel, rfl⟩
theorem d_law_12 : xd code 12 (.invokespecial 12) 3 15 := ⟨by decide +kernel, rfl⟩
theorem d_law_15 : xd code 15 (.astore_n 2) 1 16 := ⟨by decide +kernel, rfl⟩
theorem d_law_16 : xd code 16 (.iconst 0) 1 17 := ⟨by decide +kernel, rfl⟩
theorem d_law_17 : xd code 17 (.istore_n 3) 1 18 := ⟨by decide +kernel, rfl⟩
theorem d_law_18 : xd code 18 (.iload_n 3) 1 19 := ⟨by decide +kernel, rfl⟩
theorem d_law_19 : xd code 19 (.aload_n 0) 1 20 := ⟨by decide +kernel, rfl⟩
theorem d_law_20 : xd code 20 (.arraylength) 1 21 := ⟨by decide +kernel, rfl⟩
theorem d_law_21 : xd code 21 (.iconst 5) 1 22 := ⟨by decide +kernel, rfl⟩
theorem d_law_22 : xd code 22 (.isub) 1 23 := ⟨by decide +kernel, rfl⟩
theorem d_law_23 : xj code 23 (.if_icmp .gt 453) 3 26 (453) 476 := ⟨by decide +kernel, rfl, by decide⟩
theorem d_law_26 : xd code 26 (.aload_n 0) 1 27 := ⟨by decide +kernel, rfl⟩
theorem d_law_27 : xd code 27 (.iload_n 3) 1 28 := ⟨by decide +kernel, rfl⟩
theorem d_law_28 : xd code 28 (.iaload) 1 29 := ⟨by decide +kernel, rfl⟩
theorem d_law_29 : xd code 29 (.bipush 15) 2 31 := ⟨by decide +kernel, rfl⟩
theorem d_law_31 : xd code 31 (.iand) 1 32 := ⟨by decide +kernel, rfl⟩
theorem d_law_32 : xd code 32 (.tableswitch 438 0 15 #[80, 103, 116, 169, 202, 215, 228, 251, 274, 287, 310, 333, 346, 379, 392, 415]) 80 112 := ⟨by decide +kernel, rfl⟩
theorem d_law_112 : xd code 112 (.aload_n 1) 1 113 := ⟨by decide +kernel, rfl⟩
theorem d_law_113 : xd code 113 (.aload_n 0) 1 114 := ⟨by decide +kernel, rfl⟩
theorem d_law_114 : xd code 114 (.iload_n 3) 1 115 := ⟨by decide +kernel, rfl⟩
theorem d_law_115 : xd code 115 (.iconst 1) 1 116 := ⟨by decide +kernel, rfl⟩
theorem d_law_116 : xd code 116 (.iadd) 1 117 := ⟨by decide +kernel, rfl⟩
theorem d_law_117 : xd code 117 (.iaload) 1 118 := ⟨by decide +kernel, rfl⟩
theorem d_law_118 : xd code 118 (.invokevirtual 13) 3 121 := ⟨by decide +kernel, rfl⟩
theorem d_law_121 : xd code 121 (.aload_n 2) 1 122 := ⟨by decide +kernel, rfl⟩
theorem d_law_122 : xd code 122 (.aload_n 0) 1 123 := ⟨by decide +kernel, rfl⟩
theorem d_law_123 : xd code 123 (.iload_n 3) 1 124 := ⟨by decide +kernel, rfl⟩
theorem d_law_124 : xd code 124 (.iconst 1) 1 125 := ⟨by decide +kernel, rfl⟩
theorem d_law_125 : xd code 125 (.iadd) 1 126 := ⟨by decide +kernel, rfl⟩
theorem d_law_126 : xd code 126 (.iaload) 1 127 := ⟨by decide +kernel, rfl⟩
theorem d_law_127 : xd code 127 (.invokevirtual 17) 3 130 := ⟨by decide +kernel, rfl⟩
theorem d_law_130 : xj code 130 (.if_icmp .eq 340) 3 133 (340) 470 := ⟨by decide +kernel, rfl, by decide⟩
theorem d_law_133 : xd code 133 (.iconst 0) 1 134 := ⟨by decide +kernel, rfl⟩
theorem d_law_134 : xd code 134 (.ireturn) 1 135 := ⟨by decide +kernel, rfl⟩
theorem d_law_135 : xd code 135 (.aload_n 1) 1 136 := ⟨by decide +kernel, rfl⟩
theorem d_law_136 : xd code 136 (.invokevirtual 18) 3 139 := ⟨by decide +kernel, rfl⟩
theorem d_law_139 : xd code 139 (.aload_n 2) 1 140 := ⟨by decide +kernel, rfl⟩
theorem d_law_140 : xd code 140 (.invokevirtual 22) 3 143 := ⟨by decide +kernel, rfl⟩
theorem d_law_143 : xj code 143 (.if_icmp .eq 327) 3 146 (327) 470 := ⟨by decide +kernel, rfl, by decide⟩
theorem d_law_146 : xd code 146 (.iconst 0) 1 147 := ⟨by decide +kernel, rfl⟩
theorem d_law_147 : xd code 147 (.ireturn) 1 148 := ⟨by decide +kernel, rfl⟩
theorem d_law_148 : xd code 148 (.aload_n 1) 1 149 := ⟨by decide +kernel, rfl⟩
theorem d_law_149 : xd code 149 (.aload_n 0) 1 150 := ⟨by decide +kernel, rfl⟩
theorem d_law_150 : xd code 150 (.iload_n 3) 1 151 := ⟨by decide +kernel, rfl⟩
theorem d_law_151 : xd code 151 (.iconst 1) 1 152 := ⟨by decide +kernel, rfl⟩
theorem d_law_152 : xd code 152 (.iadd) 1 153 := ⟨by decide +kernel, rfl⟩
theorem d_law_153 : xd code 153 (.iaload) 1 154 := ⟨by decide +kernel, rfl⟩
theorem d_law_154 : xd code 154 (.aload_n 0) 1 155 := ⟨by decide +kernel, rfl⟩
theorem d_law_155 : xd code 155 (.iload_n 3) 1 156 := ⟨by decide +kernel, rfl⟩
theorem d_law_156 : xd code 156 (.iconst 2) 1 157 := ⟨by decide +kernel, rfl⟩
theorem d_law_157 : xd code 157 (.iadd) 1 158 := ⟨by decide +kernel, rfl⟩
theorem d_law_158 : xd code 158 (.iaload) 1 159 := ⟨by decide +kernel, rfl⟩
theorem d_law_159 : xd code 159 (.aload_n 0) 1 160 := ⟨by decide +kernel, rfl⟩
theorem d_law_160 : xd code 160 (.iload_n 3) 1 161 := ⟨by decide +kernel, rfl⟩
theorem d_law_161 : xd code 161 (.iconst 3) 1 162 := ⟨by decide +kernel, rfl⟩
theorem d_law_162 : xd code 162 (.iadd) 1 163 := ⟨by decide +kernel, rfl⟩
theorem d_law_163 : xd code 163 (.iaload) 1 164 := ⟨by decide +kernel, rfl⟩
theorem d_law_164 : xd code 164 (.aload_n 0) 1 165 := ⟨by decide +kernel, rfl⟩
theorem d_law_165 : xd code 165 (.iload_n 3) 1 166 := ⟨by decide +kernel, rfl⟩
theorem d_law_166 : xd code 166 (.iconst 4) 1 167 := ⟨by decide +kernel, rfl⟩
theorem d_law_167 : xd code 167 (.iadd) 1 168 := ⟨by decide +kernel, rfl⟩
theorem d_law_168 : xd code 168 (.iaload) 1 169 := ⟨by decide +kernel, rfl⟩
theorem d_law_169 : xd code 169 (.invokevirtual 23) 3 172 := ⟨by decide +kernel, rfl⟩
theorem d_law_172 : xd code 172 (.aload_n 2) 1 173 := ⟨by decide +kernel, rfl⟩
theorem d_law_173 : xd code 173 (.aload_n 0) 1 174 := ⟨by decide +kernel, rfl⟩
theorem d_law_174 : xd code 174 (.iload_n 3) 1 175 := ⟨by decide +kernel, rfl⟩
theorem d_law_175 : xd code 175 (.iconst 1) 1 176 := ⟨by decide +kernel, rfl⟩
theorem d_law_176 : xd code 176 (.iadd) 1 177 := ⟨by decide +kernel, rfl⟩
theorem d_law_177 : xd code 177 (.iaload) 1 178 := ⟨by decide +kernel, rfl⟩
theorem d_law_178 : xd code 178 (.aload_n 0) 1 179 := ⟨by decide +kernel, rfl⟩
theorem d_law_179 : xd code 179 (.iload_n 3) 1 180 := ⟨by decide +kernel, rfl⟩
theorem d_law_180 : xd code 180 (.iconst 2) 1 181 := ⟨by decide +kernel, rfl⟩
theorem d_law_181 : xd code 181 (.iadd) 1 182 := ⟨by decide +kernel, rfl⟩
theorem d_law_182 : xd code 182 (.iaload) 1 183 := ⟨by decide +kernel, rfl⟩
theorem d_law_183 : xd code 183 (.aload_n 0) 1 184 := ⟨by decide +kernel, rfl⟩
theorem d_law_184 : xd code 184 (.iload_n 3) 1 185 := ⟨by decide +kernel, rfl⟩
theorem d_law_185 : xd code 185 (.iconst 3) 1 186 := ⟨by decide +kernel, rfl⟩
theorem d_law_186 : xd code 186 (.iadd) 1 187 := ⟨by decide +kernel, rfl⟩
theorem d_law_187 : xd code 187 (.iaload) 1 188 := ⟨by decide +kernel, rfl⟩
theorem d_law_188 : xd code 188 (.aload_n 0) 1 189 := ⟨by decide +kernel, rfl⟩
theorem d_law_189 : xd code 189 (.iload_n 3) 1 190 := ⟨by decide +kernel, rfl⟩
theorem d_law_190 : xd code 190 (.iconst 4) 1 191 := ⟨by decide +kernel, rfl⟩
theorem d_law_191 : xd code 191 (.iadd) 1 192 := ⟨by decide +kernel, rfl⟩
theorem d_law_192 : xd code 192 (.iaload) 1 193 := ⟨by decide +kernel, rfl⟩
theorem d_law_193 : xd code 193 (.invokevirtual 27) 3 196 := ⟨by decide +kernel, rfl⟩
theorem d_law_196 : xj code 196 (.if_icmp .eq 274) 3 199 (274) 470 := ⟨by decide +kernel, rfl, by decide⟩
theorem d_law_199 : xd code 199 (.iconst 0) 1 200 := ⟨by decide +kernel, rfl⟩
theorem d_law_200 : xd code 200 (.ireturn) 1 201 := ⟨by decide +kernel, rfl⟩
theorem d_law_201 : xd code 201 (.aload_n 1) 1 202 := ⟨by decide +kernel, rfl⟩
theorem d_law_202 : xd code 202 (.aload_n 0) 1 203 := ⟨by decide +kernel, rfl⟩
theorem d_law_203 : xd code 203 (.iload_n 3) 1 204 := ⟨by decide +kernel, rfl⟩
theorem d_law_204 : xd code 204 (.iconst 1) 1 205 := ⟨by decide +kernel, rfl⟩
theorem d_law_205 : xd code 205 (.iadd) 1 206 := ⟨by decide +kernel, rfl⟩
theorem d_law_206 : xd code 206 (.iaload) 1 207 := ⟨by decide +kernel, rfl⟩
theorem d_law_207 : xd code 207 (.aload_n 0) 1 208 := ⟨by decide +kernel, rfl⟩
theorem d_law_208 : xd code 208 (.iload_n 3) 1 209 := ⟨by decide +kernel, rfl⟩
theorem d_law_209 : xd code 209 (.iconst 2) 1 210 := ⟨by decide +kernel, rfl⟩
theorem d_law_210 : xd code 210 (.iadd) 1 211 := ⟨by decide +kernel, rfl⟩
theorem d_law_211 : xd code 211 (.iaload) 1 212 := ⟨by decide +kernel, rfl⟩
theorem d_law_212 : xd code 212 (.invokevirtual 28) 3 215 := ⟨by decide +kernel, rfl⟩
theorem d_law_215 : xd code 215 (.aload_n 2) 1 216 := ⟨by decide +kernel, rfl⟩
theorem d_law_216 : xd code 216 (.aload_n 0) 1 217 := ⟨by decide +kernel, rfl⟩
theorem d_law_217 : xd code 217 (.iload_n 3) 1 218 := ⟨by decide +kernel, rfl⟩
theorem d_law_218 : xd code 218 (.iconst 1) 1 219 := ⟨by decide +kernel, rfl⟩
theorem d_law_219 : xd code 219 (.iadd) 1 220 := ⟨by decide +kernel, rfl⟩
theorem d_law_220 : xd code 220 (.iaload) 1 221 := ⟨by decide +kernel, rfl⟩
theorem d_law_221 : xd code 221 (.aload_n 0) 1 222 := ⟨by decide +kernel, rfl⟩
theorem d_law_222 : xd code 222 (.iload_n 3) 1 223 := ⟨by decide +kernel, rfl⟩
theorem d_law_223 : xd code 223 (.iconst 2) 1 224 := ⟨by decide +kernel, rfl⟩
theorem d_law_224 : xd code 224 (.iadd) 1 225 := ⟨by decide +kernel, rfl⟩
theorem d_law_225 : xd code 225 (.iaload) 1 226 := ⟨by decide +kernel, rfl⟩
theorem d_law_226 : xd code 226 (.invokevirtual 32) 3 229 := ⟨by decide +kernel, rfl⟩
theorem d_law_229 : xj code 229 (.if_icmp .eq 241) 3 232 (241) 470 := ⟨by decide +kernel, rfl, by decide⟩
theorem d_law_232 : xd code 232 (.iconst 0) 1 233 := ⟨by decide +kernel, rfl⟩
theorem d_law_233 : xd code 233 (.ireturn) 1 234 := ⟨by decide +kernel, rfl⟩
theorem d_law_234 : xd code 234 (.aload_n 1) 1 235 := ⟨by decide +kernel, rfl⟩
theorem d_law_235 : xd code 235 (.invokevirtual 33) 3 238 := ⟨by decide +kernel, rfl⟩
theorem d_law_238 : xd code 238 (.aload_n 2) 1 239 := ⟨by decide +kernel, rfl⟩
theorem d_law_239 : xd code 239 (.invokevirtual 36) 3 242 := ⟨by decide +kernel, rfl⟩
theorem d_law_242 : xj code 242 (.if_icmp .eq 228) 3 245 (228) 470 := ⟨by decide +kernel, rfl, by decide⟩
theorem d_law_245 : xd code 245 (.iconst 0) 1 246 := ⟨by decide +kernel, rfl⟩
theorem d_law_246 : xd code 246 (.ireturn) 1 247 := ⟨by decide +kernel, rfl⟩
theorem d_law_247 : xd code 247 (.aload_n 1) 1 248 := ⟨by decide +kernel, rfl⟩
theorem d_law_248 : xd code 248 (.invokevirtual 37) 3 251 := ⟨by decide +kernel, rfl⟩
theorem d_law_251 : xd code 251 (.aload_n 2) 1 252 := ⟨by decide +kernel, rfl⟩
theorem d_law_252 : xd code 252 (.invokevirtual 40) 3 255 := ⟨by decide +kernel, rfl⟩
theorem d_law_255 : xj code 255 (.if_icmp .eq 215) 3 258 (215) 470 := ⟨by decide +kernel, rfl, by decide⟩
theorem d_law_258 : xd code 258 (.iconst 0) 1 259 := ⟨by decide +kernel, rfl⟩
theorem d_law_259 : xd code 259 (.ireturn) 1 260 := ⟨by decide +kernel, rfl⟩
theorem d_law_260 : xd code 260 (.aload_n 1) 1 261 := ⟨by decide +kernel, rfl⟩
theorem d_law_261 : xd code 261 (.aload_n 0) 1 262 := ⟨by decide +kernel, rfl⟩
theorem d_law_262 : xd code 262 (.iload_n 3) 1 263 := ⟨by decide +kernel, rfl⟩
theorem d_law_263 : xd code 263 (.iconst 1) 1 264 := ⟨by decide +kernel, rfl⟩
theorem d_law_264 : xd code 264 (.iadd) 1 265 := ⟨by decide +kernel, rfl⟩
theorem d_law_265 : xd code 265 (.iaload) 1 266 := ⟨by decide +kernel, rfl⟩
theorem d_law_266 : xd code 266 (.invokevirtual 41) 3 269 := ⟨by decide +kernel, rfl⟩
theorem d_law_269 : xd code 269 (.aload_n 2) 1 270 := ⟨by decide +kernel, rfl⟩
theorem d_law_270 : xd code 270 (.aload_n 0) 1 271 := ⟨by decide +kernel, rfl⟩
theorem d_law_271 : xd code 271 (.iload_n 3) 1 272 := ⟨by decide +kernel, rfl⟩
theorem d_law_272 : xd code 272 (.iconst 1) 1 273 := ⟨by decide +kernel, rfl⟩
theorem d_law_273 : xd code 273 (.iadd) 1 274 := ⟨by decide +kernel, rfl⟩
theorem d_law_274 : xd code 274 (.iaload) 1 275 := ⟨by decide +kernel, rfl⟩
theorem d_law_275 : xd code 275 (.invokevirtual 44) 3 278 := ⟨by decide +kernel, rfl⟩
theorem d_law_278 : xj code 278 (.if_icmp .eq 192) 3 281 (192) 470 := ⟨by decide +kernel, rfl, by decide⟩
theorem d_law_281 : xd code 281 (.iconst 0) 1 282 := ⟨by decide +kernel, rfl⟩
theorem d_law_282 : xd code 282 (.ireturn) 1 283 := ⟨by decide +kernel, rfl⟩
theorem d_law_283 : xd code 283 (.aload_n 1) 1 284 := ⟨by decide +kernel, rfl⟩
theorem d_law_284 : xd code 284 (.aload_n 0) 1 285 := ⟨by decide +kernel, rfl⟩
theorem d_law_285 : xd code 285 (.iload_n 3) 1 286 := ⟨by decide +kernel, rfl⟩
theorem d_law_286 : xd code 286 (.iconst 1) 1 287 := ⟨by decide +kernel, rfl⟩
theorem d_law_287 : xd code 287 (.iadd) 1 288 := ⟨by decide +kernel, rfl⟩
theorem d_law_288 : xd code 288 (.iaload) 1 289 := ⟨by decide +kernel, rfl⟩
theorem d_law_289 : xd code 289 (.invokevirtual 45) 3 292 := ⟨by decide +kernel, rfl⟩
theorem d_law_292 : xd code 292 (.aload_n 2) 1 293 := ⟨by decide +kernel, rfl⟩
theorem d_law_293 : xd code 293 (.aload_n 0) 1 294 := ⟨by decide +kernel, rfl⟩
theorem d_law_294 : xd code 294 (.iload_n 3) 1 295 := ⟨by decide +kernel, rfl⟩
theorem d_law_295 : xd code 295 (.iconst 1) 1 296 := ⟨by decide +kernel, rfl⟩
theorem d_law_296 : xd code 296 (.iadd) 1 297 := ⟨by decide +kernel, rfl⟩
theorem d_law_297 : xd code 297 (.iaload) 1 298 := ⟨by decide +kernel, rfl⟩
theorem d_law_298 : xd code 298 (.invokevirtual 48) 3 301 := ⟨by decide +kernel, rfl⟩
theorem d_law_301 : xj code 301 (.if_icmp .eq 169) 3 304 (169) 470 := ⟨by decide +kernel, rfl, by decide⟩
theorem d_law_304 : xd code 304 (.iconst 0) 1 305 := ⟨by decide +kernel, rfl⟩
theorem d_law_305 : xd code 305 (.ireturn) 1 306 := ⟨by decide +kernel, rfl⟩
theorem d_law_306 : xd code 306 (.aload_n 1) 1 307 := ⟨by decide +kernel, rfl⟩
theorem d_law_307 : xd code 307 (.invokevirtual 49) 3 310 := ⟨by decide +kernel, rfl⟩
theorem d_law_310 : xd code 310 (.aload_n 2) 1 311 := ⟨by decide +kernel, rfl⟩
theorem d_law_311 : xd code 311 (.invokevirtual 52) 3 314 := ⟨by decide +kernel, rfl⟩
theorem d_law_314 : xj code 314 (.if_icmp .eq 156) 3 317 (156) 470 := ⟨by decide +kernel, rfl, by decide⟩
theorem d_law_317 : xd code 317 (.iconst 0) 1 318 := ⟨by decide +kernel, rfl⟩
theorem d_law_318 : xd code 318 (.ireturn) 1 319 := ⟨by decide +kernel, rfl⟩
theorem d_law_319 : xd code 319 (.aload_n 1) 1 320 := ⟨by decide +kernel, rfl⟩
theorem d_law_320 : xd code 320 (.aload_n 0) 1 321 := ⟨by decide +kernel, rfl⟩
theorem d_law_321 : xd code 321 (.iload_n 3) 1 322 := ⟨by decide +kernel, rfl⟩
theorem d_law_322 : xd code 322 (.iconst 1) 1 323 := ⟨by decide +kernel, rfl⟩
theorem d_law_323 : xd code 323 (.iadd) 1 324 := ⟨by decide +kernel, rfl⟩
theorem d_law_324 : xd code 324 (.iaload) 1 325 := ⟨by decide +kernel, rfl⟩
theorem d_law_325 : xd code 325 (.invokevirtual 53) 3 328 := ⟨by decide +kernel, rfl⟩
theorem d_law_328 : xd code 328 (.aload_n 2) 1 329 := ⟨by decide +kernel, rfl⟩
theorem d_law_329 : xd code 329 (.aload_n 0) 1 330 := ⟨by decide +kernel, rfl⟩
theorem d_law_330 : xd code 330 (.iload_n 3) 1 331 := ⟨by decide +kernel, rfl⟩
theorem d_law_331 : xd code 331 (.iconst 1) 1 332 := ⟨by decide +kernel, rfl⟩
theorem d_law_332 : xd code 332 (.iadd) 1 333 := ⟨by decide +kernel, rfl⟩
theorem d_law_333 : xd code 333 (.iaload) 1 334 := ⟨by decide +kernel, rfl⟩
theorem d_law_334 : xd code 334 (.invokevirtual 56) 3 337 := ⟨by decide +kernel, rfl⟩
theorem d_law_337 : xj code 337 (.if_icmp .eq 133) 3 340 (133) 470 := ⟨by decide +kernel, rfl, by decide⟩
theorem d_law_340 : xd code 340 (.iconst 0) 1 341 := ⟨by decide +kernel, rfl⟩
theorem d_law_341 : xd code 341 (.ireturn) 1 342 := ⟨by decide +kernel, rfl⟩
theorem d_law_342 : xd code 342 (.aload_n 1) 1 343 := ⟨by decide +kernel, rfl⟩
theorem d_law_343 : xd code 343 (.aload_n 0) 1 344 := ⟨by decide +kernel, rfl⟩
theorem d_law_344 : xd code 344 (.iload_n 3) 1 345 := ⟨by decide +kernel, rfl⟩
theorem d_law_345 : xd code 345 (.iconst 1) 1 346 := ⟨by decide +kernel, rfl⟩
theorem d_law_346 : xd code 346 (.iadd) 1 347 := ⟨by decide +kernel, rfl⟩
theorem d_law_347 : xd code 347 (.iaload) 1 348 := ⟨by decide +kernel, rfl⟩
theorem d_law_348 : xd code 348 (.invokevirtual 57) 3 351 := ⟨by decide +kernel, rfl⟩
theorem d_law_351 : xd code 351 (.aload_n 2) 1 352 := ⟨by decide +kernel, rfl⟩
theorem d_law_352 : xd code 352 (.aload_n 0) 1 353 := ⟨by decide +kernel, rfl⟩
theorem d_law_353 : xd code 353 (.iload_n 3) 1 354 := ⟨by decide +kernel, rfl⟩
theorem d_law_354 : xd code 354 (.iconst 1) 1 355 := ⟨by decide +kernel, rfl⟩
theorem d_law_355 : xd code 355 (.iadd) 1 356 := ⟨by decide +kernel, rfl⟩
theorem d_law_356 : xd code 356 (.iaload) 1 357 := ⟨by decide +kernel, rfl⟩
theorem d_law_357 : xd code 357 (.invokevirtual 61) 3 360 := ⟨by decide +kernel, rfl⟩
theorem d_law_360 : xj code 360 (.if_icmp .eq 110) 3 363 (110) 470 := ⟨by decide +kernel, rfl, by decide⟩
theorem d_law_363 : xd code 363 (.iconst 0) 1 364 := ⟨by decide +kernel, rfl⟩
theorem d_law_364 : xd code 364 (.ireturn) 1 365 := ⟨by decide +kernel, rfl⟩
theorem d_law_365 : xd code 365 (.aload_n 1) 1 366 := ⟨by decide +kernel, rfl⟩
theorem d_law_366 : xd code 366 (.invokevirtual 62) 3 369 := ⟨by decide +kernel, rfl⟩
theorem d_law_369 : xd code 369 (.aload_n 2) 1 370 := ⟨by decide +kernel, rfl⟩
theorem d_law_370 : xd code 370 (.invokevirtual 65) 3 373 := ⟨by decide +kernel, rfl⟩
theorem d_law_373 : xj code 373 (.if_icmp .eq 97) 3 376 (97) 470 := ⟨by decide +kernel, rfl, by decide⟩
theorem d_law_376 : xd code 376 (.iconst 0) 1 377 := ⟨by decide +kernel, rfl⟩
theorem d_law_377 : xd code 377 (.ireturn) 1 378 := ⟨by decide +kernel, rfl⟩
theorem d_law_378 : xd code 378 (.aload_n 1) 1 379 := ⟨by decide +kernel, rfl⟩
theorem d_law_379 : xd code 379 (.aload_n 0) 1 380 := ⟨by decide +kernel, rfl⟩
theorem d_law_380 : xd code 380 (.iload_n 3) 1 381 := ⟨by decide +kernel, rfl⟩
theorem d_law_381 : xd code 381 (.iconst 1) 1 382 := ⟨by decide +kernel, rfl⟩
theorem d_law_382 : xd code 382 (.iadd) 1 383 := ⟨by decide +kernel, rfl⟩
theorem d_law_383 : xd code 383 (.iaload) 1 384 := ⟨by decide +kernel, rfl⟩
theorem d_law_384 : xd code 384 (.aload_n 0) 1 385 := ⟨by decide +kernel, rfl⟩
theorem d_law_385 : xd code 385 (.iload_n 3) 1 386 := ⟨by decide +kernel, rfl⟩
theorem d_law_386 : xd code 386 (.iconst 2) 1 387 := ⟨by decide +kernel, rfl⟩
theorem d_law_387 : xd code 387 (.iadd) 1 388 := ⟨by decide +kernel, rfl⟩
theorem d_law_388 : xd code 388 (.iaload) 1 389 := ⟨by decide +kernel, rfl⟩
theorem d_law_389 : xd code 389 (.invokevirtual 66) 3 392 := ⟨by decide +kernel, rfl⟩
theorem d_law_392 : xd code 392 (.aload_n 2) 1 393 := ⟨by decide +kernel, rfl⟩
theorem d_law_393 : xd code 393 (.aload_n 0) 1 394 := ⟨by decide +kernel, rfl⟩
theorem d_law_394 : xd code 394 (.iload_n 3) 1 395 := ⟨by decide +kernel, rfl⟩
theorem d_law_395 : xd code 395 (.iconst 1) 1 396 := ⟨by decide +kernel, rfl⟩
theorem d_law_396 : xd code 396 (.iadd) 1 397 := ⟨by decide +kernel, rfl⟩
theorem d_law_397 : xd code 397 (.iaload) 1 398 := ⟨by decide +kernel, rfl⟩
theorem d_law_398 : xd code 398 (.aload_n 0) 1 399 := ⟨by decide +kernel, rfl⟩
theorem d_law_399 : xd code 399 (.iload_n 3) 1 400 := ⟨by decide +kernel, rfl⟩
theorem d_law_400 : xd code 400 (.iconst 2) 1 401 := ⟨by decide +kernel, rfl⟩
theorem d_law_401 : xd code 401 (.iadd) 1 402 := ⟨by decide +kernel, rfl⟩
theorem d_law_402 : xd code 402 (.iaload) 1 403 := ⟨by decide +kernel, rfl⟩
theorem d_law_403 : xd code 403 (.invokevirtual 70) 3 406 := ⟨by decide +kernel, rfl⟩
theorem d_law_406 : xj code 406 (.if_icmp .eq 64) 3 409 (64) 470 := ⟨by decide +kernel, rfl, by decide⟩
theorem d_law_409 : xd code 409 (.iconst 0) 1 410 := ⟨by decide +kernel, rfl⟩
theorem d_law_410 : xd code 410 (.ireturn) 1 411 := ⟨by decide +kernel, rfl⟩
theorem d_law_411 : xd code 411 (.aload_n 1) 1 412 := ⟨by decide +kernel, rfl⟩
theorem d_law_412 : xd code 412 (.invokevirtual 71) 3 415 := ⟨by decide +kernel, rfl⟩
theorem d_law_415 : xd code 415 (.aload_n 2) 1 416 := ⟨by decide +kernel, rfl⟩
theorem d_law_416 : xd code 416 (.invokevirtual 75) 3 419 := ⟨by decide +kernel, rfl⟩
theorem d_law_419 : xj code 419 (.if_icmp .eq 51) 3 422 (51) 470 := ⟨by decide +kernel, rfl, by decide⟩
theorem d_law_422 : xd code 422 (.iconst 0) 1 423 := ⟨by decide +kernel, rfl⟩
theorem d_law_423 : xd code 423 (.ireturn) 1 424 := ⟨by decide +kernel, rfl⟩
theorem d_law_424 : xd code 424 (.aload_n 1) 1 425 := ⟨by decide +kernel, rfl⟩
theorem d_law_425 : xd code 425 (.aload_n 0) 1 426 := ⟨by decide +kernel, rfl⟩
theorem d_law_426 : xd code 426 (.iload_n 3) 1 427 := ⟨by decide +kernel, rfl⟩
theorem d_law_427 : xd code 427 (.iconst 1) 1 428 := ⟨by decide +kernel, rfl⟩
theorem d_law_428 : xd code 428 (.iadd) 1 429 := ⟨by decide +kernel, rfl⟩
theorem d_law_429 : xd code 429 (.iaload) 1 430 := ⟨by decide +kernel, rfl⟩
theorem d_law_430 : xd code 430 (.invokevirtual 76) 3 433 := ⟨by decide +kernel, rfl⟩
theorem d_law_433 : xd code 433 (.aload_n 2) 1 434 := ⟨by decide +kernel, rfl⟩
theorem d_law_434 : xd code 434 (.aload_n 0) 1 435 := ⟨by decide +kernel, rfl⟩
theorem d_law_435 : xd code 435 (.iload_n 3) 1 436 := ⟨by decide +kernel, rfl⟩
theorem d_law_436 : xd code 436 (.iconst 1) 1 437 := ⟨by decide +kernel, rfl⟩
theorem d_law_437 : xd code 437 (.iadd) 1 438 := ⟨by decide +kernel, rfl⟩
theorem d_law_438 : xd code 438 (.iaload) 1 439 := ⟨by decide +kernel, rfl⟩
theorem d_law_439 : xd code 439 (.invokevirtual 79) 3 442 := ⟨by decide +kernel, rfl⟩
theorem d_law_442 : xj code 442 (.if_icmp .eq 28) 3 445 (28) 470 := ⟨by decide +kernel, rfl, by decide⟩
theorem d_law_445 : xd code 445 (.iconst 0) 1 446 := ⟨by decide +kernel, rfl⟩
theorem d_law_446 : xd code 446 (.ireturn) 1 447 := ⟨by decide +kernel, rfl⟩
theorem d_law_447 : xd code 447 (.aload_n 1) 1 448 := ⟨by decide +kernel, rfl⟩
theorem d_law_448 : xd code 448 (.aload_n 0) 1 449 := ⟨by decide +kernel, rfl⟩
theorem d_law_449 : xd code 449 (.iload_n 3) 1 450 := ⟨by decide +kernel, rfl⟩
theorem d_law_450 : xd code 450 (.iconst 1) 1 451 := ⟨by decide +kernel, rfl⟩
theorem d_law_451 : xd code 451 (.iadd) 1 452 := ⟨by decide +kernel, rfl⟩
theorem d_law_452 : xd code 452 (.iaload) 1 453 := ⟨by decide +kernel, rfl⟩
theorem d_law_453 : xd code 453 (.invokevirtual 80) 3 456 := ⟨by decide +kernel, rfl⟩
theorem d_law_456 : xd code 456 (.aload_n 2) 1 457 := ⟨by decide +kernel, rfl⟩
theorem d_law_457 : xd code 457 (.aload_n 0) 1 458 := ⟨by decide +kernel, rfl⟩
theorem d_law_458 : xd code 458 (.iload_n 3) 1 459 := ⟨by decide +kernel, rfl⟩
theorem d_law_459 : xd code 459 (.iconst 1) 1 460 := ⟨by decide +kernel, rfl⟩
theorem d_law_460 : xd code 460 (.iadd) 1 461 := ⟨by decide +kernel, rfl⟩
theorem d_law_461 : xd code 461 (.iaload) 1 462 := ⟨by decide +kernel, rfl⟩
theorem d_law_462 : xd code 462 (.invokevirtual 83) 3 465 := ⟨by decide +kernel, rfl⟩
theorem d_law_465 : xj code 465 (.if_icmp .eq 5) 3 468 (5) 470 := ⟨by decide +kernel, rfl, by decide⟩
theorem d_law_468 : xd code 468 (.iconst 0) 1 469 := ⟨by decide +kernel, rfl⟩
theorem d_law_469 : xd code 469 (.ireturn) 1 470 := ⟨by decide +kernel, rfl⟩
theorem d_law_470 : xd code 470 (.iinc 3 5) 3 473 := ⟨by decide +kernel, rfl⟩
theorem d_law_473 : xj code 473 (.goto (-455)) 3 476 (-455) 18 := ⟨by decide +kernel, rfl, by decide⟩
theorem d_law_476 : xd code 476 (.iconst 1) 1 477 := ⟨by decide +kernel, rfl⟩
theorem d_law_477 : xd code 477 (.ireturn) 1 478 := ⟨by decide +kernel, rfl⟩
end
section
/-! the law: two objects side by side -/
def jn (a b : XS) : XS := fun k => if k < 100 then a k else b (k - 100)
def w2 (qx qm : Nat → Nat) (cx cm : Nat → ClassId) (τ : XS) : va_W := xw false qx cx τ ++ xw true qm cm (fun k => τ (k + 100))
theorem w2_jn (qx qm : Nat → Nat) (cx cm : Nat → ClassId) (a b : XS) : w2 qx qm cx cm (jn a b) = xw false qx cx a ++ xw true qm cm b := rfl
theorem p_split {D : va_G} {cl : List vw_C} {w1 w2 : va_W} {H : Heap} (h : va_P D cl (w1 ++ w2) H) : va_P D cl w1 H ∧ va_P D cl w2 H := by
  refine ⟨fun k q hk => h k q ?_, fun k q hk => h (w1.length + k) q ?_⟩
  · rw [List.getElem?_append_left (List.getElem?_eq_some_iff.mp hk).1]; exact hk
  · rw [List.getElem?_append_right (by omega), Nat.add_sub_cancel_left]; exact hk
theorem d_split {A : Nat → Prop} {w1 w2 : va_W} (h : va_D A (w1 ++ w2)) : va_D A w1 ∧ va_D A w2 ∧ ∀ (i j : Nat) (p q : Nat × va_E), w1[i]? = some p → w2[j]? = some q → p.1 ≠ q.1 := by
  have l1 : ∀ (k : Nat) (q : Nat × va_E), w1[k]? = some q → (w1 ++ w2)[k]? = some q ∧ k < w1.length := fun k q hk => ⟨by rw [List.getElem?_append_left (List.getElem?_eq_some_iff.mp hk).1]; exact hk, (List.getElem?_eq_some_iff.mp hk).1⟩
  have l2 : ∀ (k : Nat) (q : Nat × va_E), w2[k]? = some q → (w1 ++ w2)[w1.length + k]? = some q := fun k q hk => by
    rw [List.getElem?_append_right (by omega), Nat.add_sub_cancel_left]; exact hk
  refine ⟨⟨fun i j p q hi hj e => h.1 i j p q (l1 i p hi).1 (l1 j q hj).1 e, fun k q hk => h.2 k q (l1 k q hk).1⟩, ⟨fun i j p q hi hj e => ?_, fun k q hk => h.2 _ q (l2 k q hk)⟩, fun i j p q hi hj e => ?_⟩
  · have := h.1 _ _ p q (l2 i p hi) (l2 j q hj) e
    omega
  · have h1 := (l1 i p hi).2
    have := h.1 _ _ p q (l1 i p hi).1 (l2 j q hj) e
    omega
/-- a call on the first: the second is as it was -/
theorem fr_left {A : Nat → Prop} {D : va_G} {cl : List vw_C} {w1 w2 w1' : va_W} {H H1 : Heap} (hP : va_P D cl (w1 ++ w2) H) (hD : va_D A (w1 ++ w2)) (hF : ∀ q, va_A w1 H.size q → A q) (hk : ∀ q : Nat, q < H.size → ¬ va_A w1 H.size q → H1[q]? = H[q]?) (hP1 : va_P D cl w1' H1) (hD1 : va_D (va_A w1 H.size) w1') : va_P D cl (w1' ++ w2) H1 ∧ va_D A (w1' ++ w2) := by
  obtain ⟨p1, p2⟩ := p_split hP
  obtain ⟨d1, d2, dx⟩ := d_split hD
  have apart : ∀ (k : Nat) (q : Nat × va_E), w2[k]? = some q → q.1 < H.size ∧ ¬ va_A w1 H.size q.1 := by
    intro k q hq
    have hl := (p2 k q hq).lt
    refine ⟨hl, fun hh => ?_⟩
    rcases hh with ⟨k2, e, h2⟩ | h2
    · exact dx k2 k (q.1, e) q h2 hq rfl
    · omega
  refine ⟨hP1.app (p2.kept (fun k q hq => hk q.1 (apart k q hq).1 (apart k q hq).2)), va_D.app (hD1.weaken (fun k q _ hh => hF q.1 hh)) d2 (fun i j x y hx hy e => ?_)⟩
  exact (apart j y hy).2 (by rw [← e]; exact hD1.2 i x hx)
/-- a call on the second: the first is as it was -/
theorem fr_right {A : Nat → Prop} {D : va_G} {cl : List vw_C} {w1 w2 w2' : va_W} {H H1 : Heap} (hP : va_P D cl (w1 ++ w2) H) (hD : va_D A (w1 ++ w2)) (hF : ∀ q, va_A w2 H.size q → A q) (hk : ∀ q : Nat, q < H.size → ¬ va_A w2 H.size q → H1[q]? = H[q]?) (hP1 : va_P D cl w2' H1) (hD1 : va_D (va_A w2 H.size) w2') : va_P D cl (w1 ++ w2') H1 ∧ va_D A (w1 ++ w2') := by
  obtain ⟨p1, p2⟩ := p_split hP
  obtain ⟨d1, d2, dx⟩ := d_split hD
  have apart : ∀ (k : Nat) (q : Nat × va_E), w1[k]? = some q → q.1 < H.size ∧ ¬ va_A w2 H.size q.1 := by
    intro k q hq
    have hl := (p1 k q hq).lt
    refine ⟨hl, fun hh => ?_⟩
    rcases hh with ⟨k2, e, h2⟩ | h2
    · exact dx k k2 q (q.1, e) hq h2 rfl
    · omega
  refine ⟨(p1.kept (fun k q hq => hk q.1 (apart k q hq).1 (apart k q hq).2)).app hP1, va_D.app d1 (hD1.weaken (fun k q _ hh => hF q.1 hh)) (fun i j x y hx hy e => ?_)⟩
  exact (apart i x hx).2 (by rw [e]; exact hD1.2 j y hy)
section XLaw
variable {E : XE} {cc : ByteArray} {nL fr lo pc n : Nat} {qx qm : Nat → Nat} {cx cm : Nat → ClassId} {L st rest : List Value} {a b σ : XS}
theorem x_callX (C : XOk E cc nL "CoverRoundsLaw" fr lo) (hw2 : e_w E = w2 qx qm cx cm) (hK : va_K (e_D E) classes (xtys false cx) (e_s E)) {y : MethodName} {bb : ByteArray} {mL fr' lo' idx np : Nat} {ret : FieldType} {avs : (Nat → Nat) → List Value} {Post : Int32 → XS → Prop} {As : List Value} (hv : xVw "CoverRoundsLaw" "CoverRounds" idx y bb mL (some ret) np) (hc : XCi false (e_l E) y bb mL ret fr' lo' avs a Post) (hav : avs qx = .ref (qx 0) :: As) (hnp : As.length = np) (hst : st = As.reverse ++ .ref (qx 0) :: rest) (hR : Nat.ble (fr' + 1) fr = true) (hR2 : Nat.ble (8 + (mL + 11) + lo') lo = true) (hrest : Nat.ble ((rest.map fun v => v.category).sum) 8 = true) (d : xd cc pc (.invokevirtual idx) 3 n) (kk : ∀ (r : Int32) (a' : XS), Post r a' → Wx E n L (.int r :: rest) (jn a' b)) : Wx E pc L st (jn a b) := by
  obtain ⟨d, rfl⟩ := d
  subst hst
  intro H locs ls hP hD hS hl
  rw [hw2, w2_jn] at hP hD
  obtain ⟨hP1, -⟩ := p_split hP
  obtain ⟨hD1, -, -⟩ := d_split hD
  have hF := xfree hD1 hS C.2.2.2.2.2.1
  have hm := hc (e_D E) qx cx H.size
  rw [hav] at hm
  obtain ⟨v1, v2, v3, v4, v5, v6, v7, v8, v9⟩ := id hv
  refine va_calli (va_runV (As := As) (rest := rest) ⟨C.1, C.2.1, C.2.2.1, C.2.2.2.1, C.2.2.2.2.1⟩ hm (cwV np C.2.2.2.2.1 (xV_good hv) rfl rfl rfl ⟨v6, v7, v8, v9⟩ ⟨Nat.le_trans (Nat.le_of_ble_eq_true hR) C.2.2.2.2.2.2.1, Nat.le_trans (Nat.le_of_ble_eq_true hR2) C.2.2.2.2.2.2.2.1⟩) ⟨XPre_blind _ _ _ _ _ _ _, va_recv hK hP1 (xcl false) (xw_0 false qx cx a), fun U hU hW => ⟨rfl, by rw [hU], by rw [hU]; exact hP1, va_K.moved hW.alike hK, hD1.weaken (fun _ _ _ _ => trivial)⟩⟩ rfl hnp (hl.1.trans C.2.2.1) rfl (lv_room (Nat.le_of_ble_eq_true hrest)) d ⟨C.2.2.2.2.2.2.2.2.1, C.2.2.2.2.2.2.2.2.2⟩) hS (fun q _ h => hF q h) hF (fun r a' t H1 locs1 ht hvm hpost hB hz1 hk1 hS1 => ?_)
  obtain ⟨hP2, hK2, hD2⟩ := hB
  rw [ht] at hP2
  obtain ⟨hP3, hD3⟩ := fr_left hP hD hF hk1 hP2 hD2
  exact kk r a' hpost H1 locs1 ls (by rw [hw2, w2_jn]; exact hP3) (by rw [hw2, w2_jn]; exact hD3) hS1 hl
theorem x_callM (C : XOk E cc nL "CoverRoundsLaw" fr lo) (hw2 : e_w E = w2 qx qm cx cm) (hK : va_K (e_D E) classes (xtys true cm) (e_s E)) {y : MethodName} {bb : ByteArray} {mL fr' lo' idx np : Nat} {ret : FieldType} {avs : (Nat → Nat) → List Value} {Post : Int32 → XS → Prop} {As : List Value} (hv : xVw "CoverRoundsLaw" "CoverRoundsModel" idx y bb mL (some ret) np) (hc : XCi true (e_l E) y bb mL ret fr' lo' avs b Post) (hav : avs qm = .ref (qm 0) :: As) (hnp : As.length = np) (hst : st = As.reverse ++ .ref (qm 0) :: rest) (hR : Nat.ble (fr' + 1) fr = true) (hR2 : Nat.ble (8 + (mL + 11) + lo') lo = true) (hrest : Nat.ble ((rest.map fun v => v.category).sum) 8 = true) (d : xd cc pc (.invokevirtual idx) 3 n) (kk : ∀ (r : Int32) (b' : XS), Post r b' → Wx E n L (.int r :: rest) (jn a b')) : Wx E pc L st (jn a b) := by
  obtain ⟨d, rfl⟩ := d
  subst hst
  intro H locs ls hP hD hS hl
  rw [hw2, w2_jn] at hP hD
  obtain ⟨-, hP1⟩ := p_split hP
  obtain ⟨-, hD1, -⟩ := d_split hD
  have hF := xfree hD1 hS C.2.2.2.2.2.1
  have hm := hc (e_D E) qm cm H.size
  rw [hav] at hm
  obtain ⟨v1, v2, v3, v4, v5, v6, v7, v8, v9⟩ := id hv
  refine va_calli (va_runV (As := As) (rest := rest) ⟨C.1, C.2.1, C.2.2.1, C.2.2.2.1, C.2.2.2.2.1⟩ hm (cwV np C.2.2.2.2.1 (xV_good hv) rfl rfl rfl ⟨v6, v7, v8, v9⟩ ⟨Nat.le_trans (Nat.le_of_ble_eq_true hR) C.2.2.2.2.2.2.1, Nat.le_trans (Nat.le_of_ble_eq_true hR2) C.2.2.2.2.2.2.2.1⟩) ⟨XPre_blind _ _ _ _ _ _ _, va_recv hK hP1 (xcl true) (xw_0 true qm cm b), fun U hU hW => ⟨rfl, by rw [hU], by rw [hU]; exact hP1, va_K.moved hW.alike hK, hD1.weaken (fun _ _ _ _ => trivial)⟩⟩ rfl hnp (hl.1.trans C.2.2.1) rfl (lv_room (Nat.le_of_ble_eq_true hrest)) d ⟨C.2.2.2.2.2.2.2.2.1, C.2.2.2.2.2.2.2.2.2⟩) hS (fun q _ h => hF q h) hF (fun r b' t H1 locs1 ht hvm hpost hB hz1 hk1 hS1 => ?_)
  obtain ⟨hP2, hK2, hD2⟩ := hB
  rw [ht] at hP2
  obtain ⟨hP3, hD3⟩ := fr_right hP hD hF hk1 hP2 hD2
  exact kk r b' hpost H1 locs1 ls (by rw [hw2, w2_jn]; exact hP3) (by rw [hw2, w2_jn]; exact hD3) hS1 hl
/-- the script -/
def xSc (E : XE) (s Ln : Nat) (xs : Nat → Int32) : Prop := va_X s Ln xs (e_s E) (e_s E).heap ∧ s < (e_s E).heap.size ∧ ¬ e_A E s ∧ Ln ≤ 2560
theorem x_sld {own : String} (C : XOk E cc nL own fr lo) {s Ln j : Nat} {xs : Nat → Int32} (hs : xSc E s Ln xs) (h : j < Ln) (d : xd cc pc .iaload 1 n) (kk : Wx E n L (.int (xs j) :: st) σ) : Wx E pc L (.int (nI j) :: .ref s :: st) σ := by
  obtain ⟨d, rfl⟩ := d
  obtain ⟨h1, h2, h3, h4⟩ := hs
  intro H locs ls hP hD hS hl
  refine va_sld C.1 C.2.1 h1 h2 h3 hS (vp_in_nI h (by omega)) d ?_
  rw [nI_clamp (by omega)]
  exact kk H locs ls hP hD hS hl
theorem x_slen {own : String} (C : XOk E cc nL own fr lo) {s Ln : Nat} {xs : Nat → Int32} (hs : xSc E s Ln xs) (d : xd cc pc .arraylength 1 n) (kk : Wx E n L (.int (nI Ln) :: st) σ) : Wx E pc L (.ref s :: st) σ := by
  obtain ⟨d, rfl⟩ := d
  obtain ⟨h1, h2, h3, h4⟩ := hs
  intro H locs ls hP hD hS hl
  exact va_slen C.1 C.2.1 h1 h2 h3 hS d (kk H locs ls hP hD hS hl)
theorem x_tsw {own : String} (C : XOk E cc nL own fr lo) {dflt : Int} {offs : Array Int} {len j t : Nat} {off : Int} (hj : j < 16) (d : xd cc pc (.tableswitch dflt 0 15 offs) len n) (ho : offs[j]? = some off) (ht : (pc : Int) + off = (t : Int)) (kk : Wx E t L st σ) : Wx E pc L (.int (nI j) :: st) σ := by
  obtain ⟨d, -⟩ := d
  intro H locs ls hP hD hS hl
  have e : (nI j).toInt = (j : Int) := nI_toInt (by omega)
  refine lv_tableIn C.1 C.2.1 d (by rw [e]; omega) (by rw [e]; omega) ?_ ht (kk H locs ls hP hD hS hl)
  rw [e, show ((j : Int) - 0).toNat = j by omega]
  exact ho
end XLaw
/-- the class and the model say the same, behind n calls -/
def JJ (n : Nat) (a b : XS) : Prop := ∃ (N : XNet) (w : Mk) (r : XRR) (t : XTT), NOK N ∧ RX N a ∧ RM N b ∧ mk0 (a 3) w ∧ mk0 (b 6) w ∧ (∀ p, w p ≤ 20 + 5 * n) ∧ RXq r a ∧ RMq r b ∧ RXu t a ∧ RMu t b
theorem fr7 {σ σ' : XS} (h : ∀ k, 7 ≤ k → σ' k = σ k) : frm [0, 1, 2, 3, 4, 5, 6] σ σ' := fun k hk => h k (by
  apply Classical.byContradiction
  intro hn
  apply hk
  rcases (by omega : k = 0 ∨ k = 1 ∨ k = 2 ∨ k = 3 ∨ k = 4 ∨ k = 5 ∨ k = 6) with e | e | e | e | e | e | e <;> subst e <;> decide)
theorem JJ_0 : JJ 0 x_0 m_0 := by
  refine ⟨(0, 0, fun _ => 0, fun _ => 0, fun _ _ => 0, fun _ _ => 0), fun _ => 0, none, none, ⟨by decide, by decide, fun _ => Nat.zero_le _, fun _ => Nat.zero_le _, fun _ _ => Nat.zero_le _, fun _ _ => Nat.zero_le _, fun _ _ => rfl, fun _ _ => rfl, fun _ _ _ => rfl, fun _ _ _ => rfl⟩, ⟨rfl, rfl, fun _ _ => rfl, fun _ _ => rfl, fun _ _ _ _ => rfl, fun _ _ _ _ => rfl⟩, ⟨rfl, rfl, fun _ _ => rfl, fun _ _ => rfl, fun _ _ _ _ => rfl, fun _ _ _ _ => rfl⟩, fun _ _ => rfl, fun _ _ => rfl, fun _ => Nat.zero_le _, ⟨rfl, rfl⟩, rfl, rfl, rfl⟩
/-- a call that tells the net -/
theorem JJ_net {n : Nat} {a b a' b' : XS} {r : XRR} {t : XTT} {N : XNet} {w : Mk} (hN : NOK N) (h1 : RX N a') (h2 : RM N b') (h3 : mk0 (a' 3) w) (h4 : mk0 (b' 6) w) (hw : ∀ p, w p ≤ 20 + 5 * (n + 1)) (fa : ∀ k, 7 ≤ k → a' k = a k) (fb : ∀ k, 7 ≤ k → b' k = b k) (q1 : RXq r a) (q2 : RMq r b) (q3 : RXu t a) (q4 : RMu t b) : JJ (n + 1) a' b' :=
  ⟨N, w, r, t, hN, h1, h2, h3, h4, hw, q1.fr (fr7 fa) (by decide) (by decide) (by decide) (by decide), q2.fr (fr7 fb) (by decide) (by decide) (by decide) (by decide), q3.fr (fr7 fa) (by decide), q4.fr (fr7 fb) (by decide)⟩
theorem JJ_same {n : Nat} {a b : XS} (h : JJ n a b) : JJ (n + 1) a b := by
  obtain ⟨N, w, r, t, h1, h2, h3, h4, h5, h6, h7⟩ := h
  exact ⟨N, w, r, t, h1, h2, h3, h4, h5, fun p => by have := h6 p; omega, h7⟩
theorem law_le {Ln i : Nat} (hL : Ln ≤ 2560) (hi : i ≤ 10000) : ¬ (nI Ln - nI 5 < nI i) ↔ i + 5 ≤ Ln := by
  rw [Int32.not_lt, Int32.le_iff_toInt_le, pk_sub_toInt (by omega) (by omega), nI_toInt (by omega)]
  omega
end
section
theorem ifW {c : Bool} {f w : Mk} {n : Nat} (hf : ∀ p, f p ≤ 20) (hw : ∀ p, w p ≤ 20 + 5 * n) : ∀ p, (if c = true then f else w) p ≤ 20 + 5 * (n + 1) := by
  intro p
  have h1 := hf p
  have h2 := hw p
  cases c with
  | true => show f p ≤ _; omega
  | false => show w p ≤ _; omega
set_option maxHeartbeats 4000000 in
theorem law_loop {E : XE} {qx qm : Nat → Nat} {cx cm : Nat → ClassId} {b Ln : Nat} {xs : Nat → Int32} (C : XOk E code 4 "CoverRoundsLaw" 7 240) (hw2 : e_w E = w2 qx qm cx cm) (K1 : va_K (e_D E) classes (xtys false cx) (e_s E)) (K2 : va_K (e_D E) classes (xtys true cm) (e_s E)) (hs : xSc E b Ln xs) (ret : ∀ (L : List Value) (σ : XS), Wx E 477 L [.int (nI 1)] σ) : ∀ (n : Nat) (s : XS × XS), n ≤ Ln / 5 → JJ n s.1 s.2 → Wx E 18 [.ref b, .ref (qx 0), .ref (qm 0), .int (nI (5 * n))] [] (jn s.1 s.2) := by
  have hL := hs.2.2.2
  refine x_forS (fun n (s : XS × XS) => Wx E 18 [.ref b, .ref (qx 0), .ref (qm 0), .int (nI (5 * n))] [] (jn s.1 s.2)) (fun n s => JJ n s.1 s.2) (Ln / 5) (fun n s hn hJ ih => ?_)
  obtain ⟨a, c⟩ := s
  dsimp only at hJ ih ⊢
  refine x_iload_n C rfl d_law_18 ?_
  refine x_aload_n C rfl d_law_19 ?_
  refine x_slen C hs d_law_20 ?_
  refine x_iconst C (nI 5) rfl d_law_21 ?_
  refine x_isub C d_law_22 ?_
  refine x_icmp_gt C d_law_23 (fun _ => ?_) (fun z => ?_)
  · refine x_iconst C (nI 1) rfl d_law_476 ?_
    exact ret _ _
  have hle : 5 * n + 5 ≤ Ln := (law_le hL (by omega)).mp z
  have next : ∀ a' c', JJ (n + 1) a' c' → Wx E 470 [.ref b, .ref (qx 0), .ref (qm 0), .int (nI (5 * n))] [] (jn a' c') := by
    intro a' c' hJ'
    refine x_iincN (b := 5) C rfl rfl d_law_470 ?_
    dsimp only [xst]
    refine x_goto C d_law_473 ?_
    exact ih (a', c') (by omega) hJ'
  have hJ0 := hJ
  obtain ⟨N, w, rr, tt, hN, hx, hm, wx1, wm1, wb, q1, q2, q3, q4⟩ := hJ
  refine x_aload_n C rfl d_law_26 ?_
  refine x_iload_n C rfl d_law_27 ?_
  refine x_sld C hs (by omega) d_law_28 ?_
  refine x_bipush C (nI 15) (by decide) d_law_29 ?_
  refine x_iand C d_law_31 ?_
  obtain ⟨j, hj, ej⟩ := pk_andE (xs (5 * n)) (m := nI 15) 4 (by decide)
  rw [ej]
  rcases (by omega : j = 0 ∨ j = 1 ∨ j = 2 ∨ j = 3 ∨ j = 4 ∨ j = 5 ∨ j = 6 ∨ j = 7 ∨ j = 8 ∨ j = 9 ∨ j = 10 ∨ j = 11 ∨ j = 12 ∨ j = 13 ∨ j = 14 ∨ j = 15) with e | e | e | e | e | e | e | e | e | e | e | e | e | e | e | e <;> subst e
  · refine x_tsw (off := 80) (t := 112) C hj d_law_32 rfl (by decide) ?_
    refine x_aload_n C rfl d_law_112 ?_
    refine x_aload_n C rfl d_law_113 ?_
    refine x_iload_n C rfl d_law_114 ?_
    refine x_iconst C (nI 1) rfl d_law_115 ?_
    refine x_iaddN C d_law_116 ?_
    refine x_sld C hs (by omega) d_law_117 ?_
    refine x_callX C hw2 K1 s_law_13 (c_x_place (e_l E) hN hx wx1 (xs (5 * n + 1))) rfl rfl rfl rfl rfl rfl d_law_118 (fun r1 a' p1 => ?_)
    refine x_aload_n C rfl d_law_121 ?_
    refine x_aload_n C rfl d_law_122 ?_
    refine x_iload_n C rfl d_law_123 ?_
    refine x_iconst C (nI 1) rfl d_law_124 ?_
    refine x_iaddN C d_law_125 ?_
    refine x_sld C hs (by omega) d_law_126 ?_
    refine x_callM C hw2 K2 s_law_17 (c_m_place (e_l E) hN hm wm1 (xs (5 * n + 1))) rfl rfl rfl rfl rfl rfl d_law_127 (fun r2 c' p2 => ?_)
    obtain ⟨rfl, u1, u2, u3⟩ := p1
    obtain ⟨rfl, v1, v2, v3⟩ := p2
    exact x_icmp_eq C d_law_130 (fun _ => next _ _ (JJ_net (hN.pl _) u1 v1 u2 v2 (ifW (hN.pl _).2.2.1 wb) u3 v3 q1 q2 q3 q4)) (fun zz => absurd rfl zz)
  · refine x_tsw (off := 103) (t := 135) C hj d_law_32 rfl (by decide) ?_
    refine x_aload_n C rfl d_law_135 ?_
    refine x_callX C hw2 K1 s_law_18 (c_x_transition (e_l E) hN hx wx1) rfl rfl rfl rfl rfl rfl d_law_136 (fun r1 a' p1 => ?_)
    refine x_aload_n C rfl d_law_139 ?_
    refine x_callM C hw2 K2 s_law_22 (c_m_transition (e_l E) hN hm wm1) rfl rfl rfl rfl rfl rfl d_law_140 (fun r2 c' p2 => ?_)
    obtain ⟨rfl, u1, u2, u3⟩ := p1
    obtain ⟨rfl, v1, v2, v3⟩ := p2
    exact x_icmp_eq C d_law_143 (fun _ => next _ _ (JJ_net hN.tr u1 v1 u2 v2 (ifW hN.2.2.1 wb) u3 v3 q1 q2 q3 q4)) (fun zz => absurd rfl zz)
  · refine x_tsw (off := 116) (t := 148) C hj d_law_32 rfl (by decide) ?_
    refine x_aload_n C rfl d_law_148 ?_
    refine x_aload_n C rfl d_law_149 ?_
    refine x_iload_n C rfl d_law_150 ?_
    refine x_iconst C (nI 1) rfl d_law_151 ?_
    refine x_iaddN C d_law_152 ?_
    refine x_sld C hs (by omega) d_law_153 ?_
    refine x_aload_n C rfl d_law_154 ?_
    refine x_iload_n C rfl d_law_155 ?_
    refine x_iconst C (nI 2) rfl d_law_156 ?_
    refine x_iaddN C d_law_157 ?_
    refine x_sld C hs (by omega) d_law_158 ?_
    refine x_aload_n C rfl d_law_159 ?_
    refine x_iload_n C rfl d_law_160 ?_
    refine x_iconst C (nI 3) rfl d_law_161 ?_
    refine x_iaddN C d_law_162 ?_
    refine x_sld C hs (by omega) d_law_163 ?_
    refine x_aload_n C rfl d_law_164 ?_
    refine x_iload_n C rfl d_law_165 ?_
    refine x_iconst C (nI 4) rfl d_law_166 ?_
    refine x_iaddN C d_law_167 ?_
    refine x_sld C hs (by omega) d_law_168 ?_
    refine x_callX C hw2 K1 s_law_23 (c_x_arc (e_l E) hN hx wx1 (xs (5 * n + 1)) (xs (5 * n + 2)) (xs (5 * n + 3)) (xs (5 * n + 4))) rfl rfl rfl rfl rfl rfl d_law_169 (fun r1 a' p1 => ?_)
    refine x_aload_n C rfl d_law_172 ?_
    refine x_aload_n C rfl d_law_173 ?_
    refine x_iload_n C rfl d_law_174 ?_
    refine x_iconst C (nI 1) rfl d_law_175 ?_
    refine x_iaddN C d_law_176 ?_
    refine x_sld C hs (by omega) d_law_177 ?_
    refine x_aload_n C rfl d_law_178 ?_
    refine x_iload_n C rfl d_law_179 ?_
    refine x_iconst C (nI 2) rfl d_law_180 ?_
    refine x_iaddN C d_law_181 ?_
    refine x_sld C hs (by omega) d_law_182 ?_
    refine x_aload_n C rfl d_law_183 ?_
    refine x_iload_n C rfl d_law_184 ?_
    refine x_iconst C (nI 3) rfl d_law_185 ?_
    refine x_iaddN C d_law_186 ?_
    refine x_sld C hs (by omega) d_law_187 ?_
    refine x_aload_n C rfl d_law_188 ?_
    refine x_iload_n C rfl d_law_189 ?_
    refine x_iconst C (nI 4) rfl d_law_190 ?_
    refine x_iaddN C d_law_191 ?_
    refine x_sld C hs (by omega) d_law_192 ?_
    refine x_callM C hw2 K2 s_law_27 (c_m_arc (e_l E) hN hm wm1 (xs (5 * n + 1)) (xs (5 * n + 2)) (xs (5 * n + 3)) (xs (5 * n + 4))) rfl rfl rfl rfl rfl rfl d_law_193 (fun r2 c' p2 => ?_)
    obtain ⟨rfl, u1, u2, u3⟩ := p1
    obtain ⟨rfl, v1, v2, v3⟩ := p2
    exact x_icmp_eq C d_law_196 (fun _ => next _ _ (JJ_net (hN.ar _ _ _ _) u1 v1 u2 v2 (ifW hN.2.2.1 wb) u3 v3 q1 q2 q3 q4)) (fun zz => absurd rfl zz)
  · refine x_tsw (off := 169) (t := 201) C hj d_law_32 rfl (by decide) ?_
    refine x_aload_n C rfl d_law_201 ?_
    refine x_aload_n C rfl d_law_202 ?_
    refine x_iload_n C rfl d_law_203 ?_
    refine x_iconst C (nI 1) rfl d_law_204 ?_
    refine x_iaddN C d_law_205 ?_
    refine x_sld C hs (by omega) d_law_206 ?_
    refine x_aload_n C rfl d_law_207 ?_
    refine x_iload_n C rfl d_law_208 ?_
    refine x_iconst C (nI 2) rfl d_law_209 ?_
    refine x_iaddN C d_law_210 ?_
    refine x_sld C hs (by omega) d_law_211 ?_
    refine x_callX C hw2 K1 s_law_28 (c_x_target (e_l E) hN hx (xs (5 * n + 1)) (xs (5 * n + 2))) rfl rfl rfl rfl rfl rfl d_law_212 (fun r1 a' p1 => ?_)
    refine x_aload_n C rfl d_law_215 ?_
    refine x_aload_n C rfl d_law_216 ?_
    refine x_iload_n C rfl d_law_217 ?_
    refine x_iconst C (nI 1) rfl d_law_218 ?_
    refine x_iaddN C d_law_219 ?_
    refine x_sld C hs (by omega) d_law_220 ?_
    refine x_aload_n C rfl d_law_221 ?_
    refine x_iload_n C rfl d_law_222 ?_
    refine x_iconst C (nI 2) rfl d_law_223 ?_
    refine x_iaddN C d_law_224 ?_
    refine x_sld C hs (by omega) d_law_225 ?_
    refine x_callM C hw2 K2 s_law_32 (c_m_target (e_l E) hN hm (xs (5 * n + 1)) (xs (5 * n + 2))) rfl rfl rfl rfl rfl rfl d_law_226 (fun r2 c' p2 => ?_)
    obtain ⟨rfl, u1, u2, u3⟩ := p1
    obtain ⟨rfl, v1, v2, v3⟩ := p2
    exact x_icmp_eq C d_law_229 (fun _ => next _ _ (JJ_net (hN.tg _ _) u1 v1 (by rw [u2]; exact wx1) (by rw [v2]; exact wm1) (fun p => by have := wb p; omega) u3 v3 q1 q2 q3 q4)) (fun zz => absurd rfl zz)
  · refine x_tsw (off := 202) (t := 234) C hj d_law_32 rfl (by decide) ?_
    refine x_aload_n C rfl d_law_234 ?_
    refine x_callX C hw2 K1 s_law_33 (c_x_rounds (e_l E) hN hx) rfl rfl rfl rfl rfl rfl d_law_235 (fun r1 a' p1 => ?_)
    refine x_aload_n C rfl d_law_238 ?_
    refine x_callM C hw2 K2 s_law_36 (c_m_rounds (e_l E) hN hm) rfl rfl rfl rfl rfl rfl d_law_239 (fun r2 c' p2 => ?_)
    obtain ⟨i1, g1, rfl, u1, u2⟩ := p1
    obtain ⟨i2, g2, rfl, v1, v2⟩ := p2
    obtain rfl := g1.one g2
    exact x_icmp_eq C d_law_242 (fun _ => next _ _ (⟨N, w, some (N, i1), tt, hN, hx.fr u1 (by decide), hm.fr v1 (by decide), by rw [u1 3 (by decide)]; exact wx1, by rw [v1 6 (by decide)]; exact wm1, fun p => by have := wb p; omega, ⟨g1.le, u2⟩, ⟨g1.le, v2⟩, q3.fr u1 (by decide), q4.fr v1 (by decide)⟩)) (fun zz => absurd rfl zz)
  · refine x_tsw (off := 215) (t := 247) C hj d_law_32 rfl (by decide) ?_
    refine x_aload_n C rfl d_law_247 ?_
    refine x_callX C hw2 K1 s_law_37 (c_x_steps (e_l E) q1) rfl rfl rfl rfl rfl rfl d_law_248 (fun r1 a' p1 => ?_)
    refine x_aload_n C rfl d_law_251 ?_
    refine x_callM C hw2 K2 s_law_40 (c_m_steps (e_l E) q2) rfl rfl rfl rfl rfl rfl d_law_252 (fun r2 c' p2 => ?_)
    obtain ⟨rfl, rfl⟩ := p1
    obtain ⟨rfl, rfl⟩ := p2
    exact x_icmp_eq C d_law_255 (fun _ => next a c (JJ_same hJ0)) (fun zz => absurd rfl zz)
  · refine x_tsw (off := 228) (t := 260) C hj d_law_32 rfl (by decide) ?_
    refine x_aload_n C rfl d_law_260 ?_
    refine x_aload_n C rfl d_law_261 ?_
    refine x_iload_n C rfl d_law_262 ?_
    refine x_iconst C (nI 1) rfl d_law_263 ?_
    refine x_iaddN C d_law_264 ?_
    refine x_sld C hs (by omega) d_law_265 ?_
    refine x_callX C hw2 K1 s_law_41 (c_x_witness (e_l E) q1 (xs (5 * n + 1))) rfl rfl rfl rfl rfl rfl d_law_266 (fun r1 a' p1 => ?_)
    refine x_aload_n C rfl d_law_269 ?_
    refine x_aload_n C rfl d_law_270 ?_
    refine x_iload_n C rfl d_law_271 ?_
    refine x_iconst C (nI 1) rfl d_law_272 ?_
    refine x_iaddN C d_law_273 ?_
    refine x_sld C hs (by omega) d_law_274 ?_
    refine x_callM C hw2 K2 s_law_44 (c_m_witness (e_l E) q2 (xs (5 * n + 1))) rfl rfl rfl rfl rfl rfl d_law_275 (fun r2 c' p2 => ?_)
    obtain ⟨rfl, rfl⟩ := p1
    obtain ⟨rfl, rfl⟩ := p2
    exact x_icmp_eq C d_law_278 (fun _ => next a c (JJ_same hJ0)) (fun zz => absurd rfl zz)
  · refine x_tsw (off := 251) (t := 283) C hj d_law_32 rfl (by decide) ?_
    refine x_aload_n C rfl d_law_283 ?_
    refine x_aload_n C rfl d_law_284 ?_
    refine x_iload_n C rfl d_law_285 ?_
    refine x_iconst C (nI 1) rfl d_law_286 ?_
    refine x_iaddN C d_law_287 ?_
    refine x_sld C hs (by omega) d_law_288 ?_
    refine x_callX C hw2 K1 s_law_45 (c_x_least (e_l E) q1 (xs (5 * n + 1))) rfl rfl rfl rfl rfl rfl d_law_289 (fun r1 a' p1 => ?_)
    refine x_aload_n C rfl d_law_292 ?_
    refine x_aload_n C rfl d_law_293 ?_
    refine x_iload_n C rfl d_law_294 ?_
    refine x_iconst C (nI 1) rfl d_law_295 ?_
    refine x_iaddN C d_law_296 ?_
    refine x_sld C hs (by omega) d_law_297 ?_
    refine x_callM C hw2 K2 s_law_48 (c_m_least (e_l E) q2 (xs (5 * n + 1))) rfl rfl rfl rfl rfl rfl d_law_298 (fun r2 c' p2 => ?_)
    obtain ⟨rfl, rfl⟩ := p1
    obtain ⟨rfl, rfl⟩ := p2
    exact x_icmp_eq C d_law_301 (fun _ => next a c (JJ_same hJ0)) (fun zz => absurd rfl zz)
  · refine x_tsw (off := 274) (t := 306) C hj d_law_32 rfl (by decide) ?_
    refine x_aload_n C rfl d_law_306 ?_
    refine x_callX C hw2 K1 s_law_49 (c_x_grow (e_l E) hN hx) rfl rfl rfl rfl rfl rfl d_law_307 (fun r1 a' p1 => ?_)
    refine x_aload_n C rfl d_law_310 ?_
    refine x_callM C hw2 K2 s_law_52 (c_m_grow (e_l E) hN hm) rfl rfl rfl rfl rfl rfl d_law_311 (fun r2 c' p2 => ?_)
    obtain ⟨i1, g1, u1, u2⟩ := p1
    obtain ⟨i2, g2, v1, v2⟩ := p2
    obtain rfl := g1.one g2
    have J' : ∀ t, RXu t a' → RMu t c' → JJ (n + 1) a' c' := fun t t1 t2 => ⟨N, w, rr, t, hN, hx.fr u1 (by decide), hm.fr v1 (by decide), by rw [u1 3 (by decide)]; exact wx1, by rw [v1 6 (by decide)]; exact wm1, fun p => by have := wb p; omega, q1.fr u1 (by decide) (by decide) (by decide) (by decide), q2.fr v1 (by decide) (by decide) (by decide) (by decide), t1, t2⟩
    rcases u2 with ⟨e1, rfl, e2, e3⟩ | ⟨e1, rfl, e3⟩ <;> rcases v2 with ⟨f1, rfl, f2, f3⟩ | ⟨f1, rfl, f3⟩
    · exact x_icmp_eq C d_law_314 (fun _ => next _ _ (J' (some (N, gr N i1)) ⟨⟨hN, e2, e1⟩, e3⟩ ⟨⟨hN, e2, e1⟩, f3⟩)) (fun zz => absurd rfl zz)
    · exact absurd e1 (by omega)
    · exact absurd f1 (by omega)
    · exact x_icmp_eq C d_law_314 (fun _ => next _ _ (J' none e3 f3)) (fun zz => absurd rfl zz)
  · refine x_tsw (off := 287) (t := 319) C hj d_law_32 rfl (by decide) ?_
    refine x_aload_n C rfl d_law_319 ?_
    refine x_aload_n C rfl d_law_320 ?_
    refine x_iload_n C rfl d_law_321 ?_
    refine x_iconst C (nI 1) rfl d_law_322 ?_
    refine x_iaddN C d_law_323 ?_
    refine x_sld C hs (by omega) d_law_324 ?_
    refine x_callX C hw2 K1 s_law_53 (c_x_most (e_l E) q3 (xs (5 * n + 1))) rfl rfl rfl rfl rfl rfl d_law_325 (fun r1 a' p1 => ?_)
    refine x_aload_n C rfl d_law_328 ?_
    refine x_aload_n C rfl d_law_329 ?_
    refine x_iload_n C rfl d_law_330 ?_
    refine x_iconst C (nI 1) rfl d_law_331 ?_
    refine x_iaddN C d_law_332 ?_
    refine x_sld C hs (by omega) d_law_333 ?_
    refine x_callM C hw2 K2 s_law_56 (c_m_most (e_l E) q4 (xs (5 * n + 1))) rfl rfl rfl rfl rfl rfl d_law_334 (fun r2 c' p2 => ?_)
    obtain ⟨rfl, rfl⟩ := p1
    obtain ⟨rfl, rfl⟩ := p2
    exact x_icmp_eq C d_law_337 (fun _ => next a c (JJ_same hJ0)) (fun zz => absurd rfl zz)
  · refine x_tsw (off := 310) (t := 342) C hj d_law_32 rfl (by decide) ?_
    refine x_aload_n C rfl d_law_342 ?_
    refine x_aload_n C rfl d_law_343 ?_
    refine x_iload_n C rfl d_law_344 ?_
    refine x_iconst C (nI 1) rfl d_law_345 ?_
    refine x_iaddN C d_law_346 ?_
    refine x_sld C hs (by omega) d_law_347 ?_
    refine x_callX C hw2 K1 s_law_57 (c_x_live (e_l E) q3 (xs (5 * n + 1))) rfl rfl rfl rfl rfl rfl d_law_348 (fun r1 a' p1 => ?_)
    refine x_aload_n C rfl d_law_351 ?_
    refine x_aload_n C rfl d_law_352 ?_
    refine x_iload_n C rfl d_law_353 ?_
    refine x_iconst C (nI 1) rfl d_law_354 ?_
    refine x_iaddN C d_law_355 ?_
    refine x_sld C hs (by omega) d_law_356 ?_
    refine x_callM C hw2 K2 s_law_61 (c_m_live (e_l E) q4 (xs (5 * n + 1))) rfl rfl rfl rfl rfl rfl d_law_357 (fun r2 c' p2 => ?_)
    obtain ⟨rfl, rfl⟩ := p1
    obtain ⟨rfl, rfl⟩ := p2
    exact x_icmp_eq C d_law_360 (fun _ => next a c (JJ_same hJ0)) (fun zz => absurd rfl zz)
  · refine x_tsw (off := 333) (t := 365) C hj d_law_32 rfl (by decide) ?_
    refine x_aload_n C rfl d_law_365 ?_
    refine x_callX C hw2 K1 s_law_62 (c_x_limits (e_l E) q3) rfl rfl rfl rfl rfl rfl d_law_366 (fun r1 a' p1 => ?_)
    refine x_aload_n C rfl d_law_369 ?_
    refine x_callM C hw2 K2 s_law_65 (c_m_limits (e_l E) q4) rfl rfl rfl rfl rfl rfl d_law_370 (fun r2 c' p2 => ?_)
    obtain ⟨rfl, rfl⟩ := p1
    obtain ⟨rfl, rfl⟩ := p2
    exact x_icmp_eq C d_law_373 (fun _ => next a c (JJ_same hJ0)) (fun zz => absurd rfl zz)
  · refine x_tsw (off := 346) (t := 378) C hj d_law_32 rfl (by decide) ?_
    refine x_aload_n C rfl d_law_378 ?_
    refine x_aload_n C rfl d_law_379 ?_
    refine x_iload_n C rfl d_law_380 ?_
    refine x_iconst C (nI 1) rfl d_law_381 ?_
    refine x_iaddN C d_law_382 ?_
    refine x_sld C hs (by omega) d_law_383 ?_
    refine x_aload_n C rfl d_law_384 ?_
    refine x_iload_n C rfl d_law_385 ?_
    refine x_iconst C (nI 2) rfl d_law_386 ?_
    refine x_iaddN C d_law_387 ?_
    refine x_sld C hs (by omega) d_law_388 ?_
    refine x_callX C hw2 K1 s_law_66 (c_x_limit (e_l E) q3 (xs (5 * n + 1)) (xs (5 * n + 2))) rfl rfl rfl rfl rfl rfl d_law_389 (fun r1 a' p1 => ?_)
    refine x_aload_n C rfl d_law_392 ?_
    refine x_aload_n C rfl d_law_393 ?_
    refine x_iload_n C rfl d_law_394 ?_
    refine x_iconst C (nI 1) rfl d_law_395 ?_
    refine x_iaddN C d_law_396 ?_
    refine x_sld C hs (by omega) d_law_397 ?_
    refine x_aload_n C rfl d_law_398 ?_
    refine x_iload_n C rfl d_law_399 ?_
    refine x_iconst C (nI 2) rfl d_law_400 ?_
    refine x_iaddN C d_law_401 ?_
    refine x_sld C hs (by omega) d_law_402 ?_
    refine x_callM C hw2 K2 s_law_70 (c_m_limit (e_l E) q4 (xs (5 * n + 1)) (xs (5 * n + 2))) rfl rfl rfl rfl rfl rfl d_law_403 (fun r2 c' p2 => ?_)
    obtain ⟨rfl, rfl⟩ := p1
    obtain ⟨rfl, rfl⟩ := p2
    exact x_icmp_eq C d_law_406 (fun _ => next a c (JJ_same hJ0)) (fun zz => absurd rfl zz)
  · refine x_tsw (off := 379) (t := 411) C hj d_law_32 rfl (by decide) ?_
    refine x_aload_n C rfl d_law_411 ?_
    refine x_callX C hw2 K1 s_law_71 (c_x_covers (e_l E) hN hx q3) rfl rfl rfl rfl rfl rfl d_law_412 (fun r1 a' p1 => ?_)
    refine x_aload_n C rfl d_law_415 ?_
    refine x_callM C hw2 K2 s_law_75 (c_m_covers (e_l E) hN hm q4) rfl rfl rfl rfl rfl rfl d_law_416 (fun r2 c' p2 => ?_)
    obtain ⟨rfl, rfl⟩ := p1
    obtain ⟨rfl, rfl⟩ := p2
    exact x_icmp_eq C d_law_419 (fun _ => next a c (JJ_same hJ0)) (fun zz => absurd rfl zz)
  · refine x_tsw (off := 392) (t := 424) C hj d_law_32 rfl (by decide) ?_
    refine x_aload_n C rfl d_law_424 ?_
    refine x_aload_n C rfl d_law_425 ?_
    refine x_iload_n C rfl d_law_426 ?_
    refine x_iconst C (nI 1) rfl d_law_427 ?_
    refine x_iaddN C d_law_428 ?_
    refine x_sld C hs (by omega) d_law_429 ?_
    refine x_callX C hw2 K1 s_law_76 (c_x_fire (e_l E) hN hx wx1 (fun p _ => by have := wb p; omega) (xs (5 * n + 1))) rfl rfl rfl rfl rfl rfl d_law_430 (fun r1 a' p1 => ?_)
    refine x_aload_n C rfl d_law_433 ?_
    refine x_aload_n C rfl d_law_434 ?_
    refine x_iload_n C rfl d_law_435 ?_
    refine x_iconst C (nI 1) rfl d_law_436 ?_
    refine x_iaddN C d_law_437 ?_
    refine x_sld C hs (by omega) d_law_438 ?_
    refine x_callM C hw2 K2 s_law_79 (c_m_fire (e_l E) hN hm wm1 (fun p _ => by have := wb p; omega) (xs (5 * n + 1))) rfl rfl rfl rfl rfl rfl d_law_439 (fun r2 c' p2 => ?_)
    obtain ⟨rfl, u1, u2, u3⟩ := p1
    obtain ⟨rfl, v1, v2, v3⟩ := p2
    exact x_icmp_eq C d_law_442 (fun _ => next _ _ (JJ_net hN u1 v1 u2 v2 (fun p => by have := fiW_le hN wb (xs (5 * n + 1)) p; omega) u3 v3 q1 q2 q3 q4)) (fun zz => absurd rfl zz)
  · refine x_tsw (off := 415) (t := 447) C hj d_law_32 rfl (by decide) ?_
    refine x_aload_n C rfl d_law_447 ?_
    refine x_aload_n C rfl d_law_448 ?_
    refine x_iload_n C rfl d_law_449 ?_
    refine x_iconst C (nI 1) rfl d_law_450 ?_
    refine x_iaddN C d_law_451 ?_
    refine x_sld C hs (by omega) d_law_452 ?_
    refine x_callX C hw2 K1 s_law_80 (c_x_tokens (e_l E) hN hx wx1 (xs (5 * n + 1))) rfl rfl rfl rfl rfl rfl d_law_453 (fun r1 a' p1 => ?_)
    refine x_aload_n C rfl d_law_456 ?_
    refine x_aload_n C rfl d_law_457 ?_
    refine x_iload_n C rfl d_law_458 ?_
    refine x_iconst C (nI 1) rfl d_law_459 ?_
    refine x_iaddN C d_law_460 ?_
    refine x_sld C hs (by omega) d_law_461 ?_
    refine x_callM C hw2 K2 s_law_83 (c_m_tokens (e_l E) hN hm wm1 (xs (5 * n + 1))) rfl rfl rfl rfl rfl rfl d_law_462 (fun r2 c' p2 => ?_)
    obtain ⟨rfl, rfl⟩ := p1
    obtain ⟨rfl, rfl⟩ := p2
    exact x_icmp_eq C d_law_465 (fun _ => next a c (JJ_same hJ0)) (fun zz => absurd rfl zz)
end
section
set_option maxRecDepth 20000 in
theorem tl_x : Cond.classLink "CoverRoundsLaw" 7 "CoverRounds" ∈ lw_tbl ∧ Cond.instantiable "CoverRounds" 24 ∈ lw_tbl ∧ Cond.initialized "CoverRounds" ∈ lw_tbl ∧ Cond.methodLink "CoverRoundsLaw" 9 y_x_init ∈ lw_tbl ∧ Cond.instanceMethod y_x_init ∈ lw_tbl := ⟨List.mem_of_getElem? (i := 43) rfl, List.mem_of_getElem? (i := 44) rfl, List.mem_of_getElem? (i := 39) rfl, List.mem_of_getElem? (i := 45) rfl, List.mem_of_getElem? (i := 46) rfl⟩
set_option maxRecDepth 20000 in
theorem gd_x : GoodIn lw_g (.code y_x_init b_x_init 1 none :: lw_g) := by
  intro w hw
  have hm : w ∈ lw_g := by
    rcases List.mem_cons.mp hw with e | h
    · rw [e]; exact mg (List.mem_of_getElem? (i := 47) rfl) rfl
    · exact h
  exact ⟨hm, good_tbl w hm⟩
set_option maxRecDepth 20000 in
theorem tl_m : Cond.classLink "CoverRoundsLaw" 10 "CoverRoundsModel" ∈ lw_tbl ∧ Cond.instantiable "CoverRoundsModel" 27 ∈ lw_tbl ∧ Cond.initialized "CoverRoundsModel" ∈ lw_tbl ∧ Cond.methodLink "CoverRoundsLaw" 12 y_m_init ∈ lw_tbl ∧ Cond.instanceMethod y_m_init ∈ lw_tbl := ⟨List.mem_of_getElem? (i := 297) rfl, List.mem_of_getElem? (i := 298) rfl, List.mem_of_getElem? (i := 40) rfl, List.mem_of_getElem? (i := 299) rfl, List.mem_of_getElem? (i := 300) rfl⟩
set_option maxRecDepth 20000 in
theorem gd_m : GoodIn lw_g (.code y_m_init b_m_init 1 none :: lw_g) := by
  intro w hw
  have hm : w ∈ lw_g := by
    rcases List.mem_cons.mp hw with e | h
    · rw [e]; exact mg (List.mem_of_getElem? (i := 301) rfl) rfl
    · exact h
  exact ⟨hm, good_tbl w hm⟩
set_option maxHeartbeats 4000000 in
set_option maxRecDepth 100000 in
/-- THE LAW, from its entry -/
theorem whole_start {p : Program} {e : Env} {s : State} {m : MethodId} {below : List Frame} {meth : Method} {c : Code} (l : Launch) {b L : Nat} {xs : Nat → Int32} (hL : L ≤ 2560) (C0 : lw_At p s m meth c b L xs) : W p l e room_1 s m #[Value.ref b] below meth c s.heap [] 0 0 (lw_Z below #[Value.ref b] s) (entryFrame m ([Value.ref b] : List Value).toArray 4) := by
  obtain ⟨hx, hb, hr, hml, hown, htt, hX, hbl, hlocks, hgv⟩ := id C0
  have hts : ∀ w ∈ lw_g, w.before #[Value.ref b] s = true := fun w hw => htt w (List.mem_filter.mp hw).1
  have hA : ∀ q : Nat, s.heap.size ≤ q → (fun q : Nat => s.heap.size ≤ q) q := fun _ h => h
  have hbA : ¬ (fun q : Nat => s.heap.size ≤ q) b := Nat.not_le.mpr hbl
  obtain ⟨c0, iS0, hKn0⟩ := u_known (C := "CoverRounds") (T := F_x) (N := 24) (n := 24) hts xin_x (htt _ tl_x.2.1)
  obtain ⟨c1, iS1, hKn1⟩ := u_known (C := "CoverRoundsModel") (T := F_m) (N := 27) (n := 27) hts xin_m (htt _ tl_m.2.1)
  obtain ⟨D, hKc⟩ : ∃ (D : va_G), ∀ (k : Nat) (q : vw_C), classes[k]? = some q → u_Kn s q.1 q.2.1 q.2.2 (D.1 k) (D.2 k) := by
    refine ⟨(fun k => if k = 0 then c0 else c1, fun k => if k = 0 then iS0 else iS1), ?_⟩
    intro k q hq
    match k, hq with
    | 0, hq => cases hq; exact hKn0
    | 1, hq => cases hq; exact hKn1
    | k + 2, hq => simp [classes] at hq
  have hS : va_S (fun q : Nat => s.heap.size ≤ q) s.heap s.heap [] := va_S.rf
  have hK : va_K D classes [] s := ⟨hKc, fun k q h => by simp at h⟩
  have hP : va_P D classes [] s.heap := fun k q h => by simp at h
  have hD : va_D (fun q : Nat => s.heap.size ≤ q) [] := ⟨fun i j p q h => by simp at h, fun k q h => by simp at h⟩
  have hl := lv_entry ([.ref b]) (n := 4) (Nat.le_of_ble_eq_true rfl)
  rw [lg_entry_eq]
  generalize (lg_sl ([.ref b]) ++ List.replicate (4 - (lg_sl ([.ref b])).length) Slot.unset).toArray = ls at hl ⊢
  have hl : lv_has ls 4 [(0, .ref b)] := hl
  refine va_new (ci := 0) (fs := [.int 0, .int 0, .null, .null, .null, .null, .null, .null, .null, .int 0, .int 0, .null, .int 0, .null, .null, .null, .null, .null, .int 0, .int 0, .int 0, .null, .int 0, .int 0]) (C := "CoverRounds") (T := F_x) (N := 24) hx hb hts xin_x t_x xtok_x hown (htt _ tl_x.1) (htt _ tl_x.2.1) (htt _ tl_x.2.2.1) hK hP hD hS hA rfl (fun j hj => by rcases (show j = 0 ∨ j = 1 ∨ j = 2 ∨ j = 3 ∨ j = 4 ∨ j = 5 ∨ j = 6 ∨ j = 7 ∨ j = 8 ∨ j = 9 ∨ j = 10 ∨ j = 11 ∨ j = 12 ∨ j = 13 ∨ j = 14 ∨ j = 15 ∨ j = 16 ∨ j = 17 ∨ j = 18 ∨ j = 19 ∨ j = 20 ∨ j = 21 ∨ j = 22 ∨ j = 23 by omega) with rfl | rfl | rfl | rfl | rfl | rfl | rfl | rfl | rfl | rfl | rfl | rfl | rfl | rfl | rfl | rfl | rfl | rfl | rfl | rfl | rfl | rfl | rfl | rfl <;> rfl) (Nat.le_of_ble_eq_true rfl) (Nat.le_of_ble_eq_true rfl) d_law_0.1 (fun hx0 H hP hD hS => ?_)
  refine W.widen (k := 1) (n := 24) (Nat.le_of_ble_eq_true rfl) (Nat.le_of_ble_eq_true rfl) ?_
  refine lv_dup hx hb d_law_3.1 rfl ?_
  have hP : va_P D classes (w0_x hx0) H := hP
  have hD : va_D (fun q : Nat => s.heap.size ≤ q) (w0_x hx0) := hD
  have hFc := xfree hD hS hA
  refine va_callv (va_runI (As := []) (rest := [.ref hx0]) ⟨hx, hb, hml, hown, hts⟩ (c_x_init l D hx0 H.size) (cwI 0 hts gd_x rfl rfl rfl (htt _ tl_x.2.2.1) (htt _ tl_x.2.2.2.1) (htt _ tl_x.2.2.2.2) rfl (by decide +kernel) ⟨Nat.le_of_ble_eq_true rfl, Nat.le_of_ble_eq_true rfl⟩) ⟨fun a U g mk q => by obtain ⟨q0, q1, qP, qK, qD⟩ := q; exact ⟨q0, q1, qP, va_K.moved (u := U) (U := U.calling g mk a) (Vm.Alike.refl U.vm) qK, qD⟩, fun U hU hW => ⟨rfl, by rw [hU], by rw [hU]; exact hP, va_K.moved hW.alike hK, hD.weaken (fun _ _ _ _ => trivial)⟩⟩ rfl rfl hl.1 rfl (lv_room (Nat.le_of_ble_eq_true rfl)) d_law_4.1 ⟨Nat.le_of_ble_eq_true rfl, Nat.le_of_ble_eq_true rfl⟩) hS (fun q _ h => hFc q h) hFc (fun u t H1 locs ht hvm hw hB hz1 hk1 hS => ?_)
  obtain ⟨qx, cx⟩ := u
  obtain ⟨hP1, hK1, hD1⟩ := hB
  rw [ht] at hP1
  have K1 : va_K D classes (xtys false cx) s := va_K.moved hvm.symm hK1
  have hw : qx 0 = hx0 := hw
  subst hw
  have hP : va_P D classes (xw false qx cx x_0) H1 := hP1
  have hD : va_D (fun q : Nat => s.heap.size ≤ q) (xw false qx cx x_0) := hD1.weaken (fun k z _ h => hFc z.1 h)
  clear hFc hz1 hk1 hD1 hP1 ht
  generalize H1 = H at hP hS ⊢
  refine W.widen (k := 15) (n := 75240) (Nat.le_of_ble_eq_true rfl) (Nat.le_of_ble_eq_true rfl) ?_
  refine lv_astore_n (lv' := [(1, .ref (qx 0)), (0, .ref b)]) hx hb d_law_7.1 rfl hl (by decide) rfl (fun ls hl => ?_)
  refine va_new (ci := 1) (fs := [.int 0, .null, .null, .int 0, .null, .null, .null, .int 0, .int 0, .int 0, .null, .null, .null, .int 0, .null, .int 0, .null, .int 0, .int 0, .int 0, .null, .null, .int 0, .int 0, .null, .null, .null]) (C := "CoverRoundsModel") (T := F_m) (N := 27) hx hb hts xin_m t_m xtok_m hown (htt _ tl_m.1) (htt _ tl_m.2.1) (htt _ tl_m.2.2.1) hK hP hD hS hA rfl (fun j hj => by rcases (show j = 0 ∨ j = 1 ∨ j = 2 ∨ j = 3 ∨ j = 4 ∨ j = 5 ∨ j = 6 ∨ j = 7 ∨ j = 8 ∨ j = 9 ∨ j = 10 ∨ j = 11 ∨ j = 12 ∨ j = 13 ∨ j = 14 ∨ j = 15 ∨ j = 16 ∨ j = 17 ∨ j = 18 ∨ j = 19 ∨ j = 20 ∨ j = 21 ∨ j = 22 ∨ j = 23 ∨ j = 24 ∨ j = 25 ∨ j = 26 by omega) with rfl | rfl | rfl | rfl | rfl | rfl | rfl | rfl | rfl | rfl | rfl | rfl | rfl | rfl | rfl | rfl | rfl | rfl | rfl | rfl | rfl | rfl | rfl | rfl | rfl | rfl | rfl <;> rfl) (Nat.le_of_ble_eq_true rfl) (Nat.le_of_ble_eq_true rfl) d_law_8.1 (fun hm0 H hP hD hS => ?_)
  refine W.widen (k := 16) (n := 75267) (Nat.le_of_ble_eq_true rfl) (Nat.le_of_ble_eq_true rfl) ?_
  refine lv_dup hx hb d_law_11.1 rfl ?_
  have hP : va_P D classes (xw false qx cx x_0 ++ w0_m hm0) H := hP
  have hD : va_D (fun q : Nat => s.heap.size ≤ q) (xw false qx cx x_0 ++ w0_m hm0) := hD
  have hPm := (p_split hP).2
  have hDm := (d_split hD).2.1
  have hFc := xfree hDm hS hA
  refine va_callv (va_runI (As := []) (rest := [.ref hm0]) ⟨hx, hb, hml, hown, hts⟩ (c_m_init l D hm0 H.size) (cwI 0 hts gd_m rfl rfl rfl (htt _ tl_m.2.2.1) (htt _ tl_m.2.2.2.1) (htt _ tl_m.2.2.2.2) rfl (by decide +kernel) ⟨Nat.le_of_ble_eq_true rfl, Nat.le_of_ble_eq_true rfl⟩) ⟨fun a U g mk q => by obtain ⟨q0, q1, qP, qK, qD⟩ := q; exact ⟨q0, q1, qP, va_K.moved (u := U) (U := U.calling g mk a) (Vm.Alike.refl U.vm) qK, qD⟩, fun U hU hW => ⟨rfl, by rw [hU], by rw [hU]; exact hPm, va_K.moved hW.alike hK, hDm.weaken (fun _ _ _ _ => trivial)⟩⟩ rfl rfl hl.1 rfl (lv_room (Nat.le_of_ble_eq_true rfl)) d_law_12.1 ⟨Nat.le_of_ble_eq_true rfl, Nat.le_of_ble_eq_true rfl⟩) hS (fun q _ h => hFc q h) hFc (fun u t H1 locs ht hvm hw hB hz1 hk1 hS => ?_)
  obtain ⟨qm, cm⟩ := u
  obtain ⟨hP1, hK1, hD1⟩ := hB
  rw [ht] at hP1
  have K2 : va_K D classes (xtys true cm) s := va_K.moved hvm.symm hK1
  have hw : qm 0 = hm0 := hw
  subst hw
  obtain ⟨hP, hD⟩ := fr_right hP hD hFc hk1 hP1 hD1
  clear hFc hz1 hk1 hD1 hP1 ht
  generalize H1 = H at hP hS ⊢
  refine W.widen (k := 31) (n := 158480) (Nat.le_of_ble_eq_true rfl) (Nat.le_of_ble_eq_true rfl) ?_
  refine lv_astore_n (lv' := [(2, .ref (qm 0)), (1, .ref (qx 0)), (0, .ref b)]) hx hb d_law_15.1 rfl hl (by decide) rfl (fun ls hl => ?_)
  refine lv_iconst (v := nI 0) hx hb d_law_16.1 (by decide) ?_
  refine lv_istore_n (lv' := [(3, .int (nI 0)), (2, .ref (qm 0)), (1, .ref (qx 0)), (0, .ref b)]) hx hb d_law_17.1 rfl hl (by decide) rfl (fun ls hl => ?_)
  have hxl : xl ls c.maxLocals [.ref b, .ref (qx 0), .ref (qm 0), .int (nI (5 * 0))] := by
    refine ⟨by rw [hml]; exact hl.1, hl.2.1, fun v hv => ?_, fun i v hi => ?_⟩
    · simp only [List.mem_cons, List.not_mem_nil, or_false] at hv
      rcases hv with rfl | rfl | rfl | rfl <;> rfl
    · match i, hi with
      | 0, hi => cases hi; exact lv_at hl 3 rfl
      | 1, hi => cases hi; exact lv_at hl 2 rfl
      | 2, hi => cases hi; exact lv_at hl 1 rfl
      | 3, hi => cases hi; exact lv_at hl 0 rfl
      | i + 4, hi => simp at hi
  have key := law_loop (E := (p, l, e, room_1, s, m, #[Value.ref b], below, meth, c, 31, 158480, D, (fun q : Nat => s.heap.size ≤ q), w2 qx qm cx cm, lw_Z below #[Value.ref b] s)) (qx := qx) (qm := qm) (cx := cx) (cm := cm) (b := b) (Ln := L) (xs := xs) ⟨hx, hb, hml, hown, hts, hA, Nat.le_refl _, Nat.le_refl _, Nat.le_of_ble_eq_true rfl, Nat.le_of_ble_eq_true rfl⟩ rfl K1 K2 ⟨hX, hbl, hbA, hL⟩ (fun L σ H locs ls hP hD hS hl => by
    refine va_forget (fun q hq => hS.2.2 q hq) ?_
    refine W.widen (k := 600000) (n := 7302250) (Nat.le_of_ble_eq_true rfl) (Nat.le_of_ble_eq_true rfl) ?_
    exact lw_ret hx hb hr hlocks d_law_477.1) 0 (x_0, m_0) (Nat.zero_le _) JJ_0
  exact key H locs ls hP hD hS hxl
end
section
set_option maxHeartbeats 4000000 in
theorem lw_walk (l : Launch) (b : Addr) (xs : List Int32) : MetFree l x (headSpec (Jvm.Cond.code x code maxLocals ret :: tables_1) room_1) (lw_P b xs) (fun _ _ _ _ _ => True) lw_Q := by
  refine MetFree.of_bodyS (code := code) (maxLocals := maxLocals) (ret := ret) (by decide) ?_ ?_
  · intro args s m h hn
    obtain ⟨meth, c, h1, h2, h3, h4, h5, h6, -, -⟩ := Cond.code_spec hn (atoms_spec (ws := Jvm.Cond.code x code maxLocals ret :: tables_1) h _ List.mem_cons_self)
    exact ⟨meth, c, h1, h2, h3, h4, h5, h6⟩
  · intro p e s m args below meth c s₁ B hml0 hP _
    obtain ⟨rfl, hx, hbd, hgv⟩ := hP
    obtain ⟨scr, harrAt, hlist, hof, hsmall⟩ := hx
    obtain ⟨hcb, hkn, -, -⟩ := State.arrayAt?_spec harrAt
    have hown : s.vm.findClass R_law = some m.cls := findClass_of_methodNamed B.named
    have hts0 : ∀ c ∈ (Jvm.Cond.code x code maxLocals ret :: tables_1), c.before #[Value.ref b] s = true := atoms_spec (ws := Jvm.Cond.code x code maxLocals ret :: tables_1) B.pre
    have hts : ∀ w ∈ lw_tbl, w.before #[Value.ref b] s = true := k2_hts_sels lw_privs (fun w hw => hts0 w (List.mem_cons_of_mem _ hw)) lw_privs_ok
    have hml : c.maxLocals = 4 := B.maxLocals_eq (hts0 _ List.mem_cons_self)
    have X₀ : Stand p l e room_1 s m #[Value.ref b] below meth c s₁ [] 0 0 := Stand.of_body B
    have hh0 : s₁.heap = s.heap := by rw [B.state]; rfl
    have hsz : scr.slots.size = xs.length := by rw [← Array.length_toList, hlist, List.length_map]
    have hval : ∀ j : Nat, j < xs.length → scr.slots[j]? = some (.int (xs.getD j 0)) := fun j hj => by
      rw [← Array.getElem?_toList, hlist]
      simp [hj]
    have hbl : b < s.heap.size := (Array.getElem?_eq_some_iff.mp hcb).1
    have hX : va_X b xs.length (fun j => xs.getD j 0) s s.heap := ⟨scr, hcb, hof, hkn, hsz, hval⟩
    have K : W p l e room_1 s m #[Value.ref b] below meth c s₁.heap [] 0 0 (lw_Z below #[Value.ref b] s) (entryFrame m ([Value.ref b] : List Value).toArray 4) := by
      rw [hh0]
      exact whole_start l hbd ⟨B.exec, B.bytes, B.returns, hml, hown, hts, hX, hbl, B.notSynchronized, hgv⟩
    obtain ⟨t, a1, o, b1, b2, b3⟩ := K s₁ rfl X₀
    exact ⟨t, o, a1, b1, b2, b3⟩
theorem lw_pre_spec {args : Array Value} {s : State} (h : (Jvm.Cond.and given_1 narrow_1).before args s = true) (hr : rest_1_c.before args s = true) : ∃ (b : Addr) (xs : List Int32), lw_P b xs args s := by
  have hs := flat_of_before _ h
  have hq := flat_of_before _ hr
  have hc : (Cond.count 1).before args s = true := hs _ (by decide +kernel)
  have harr : (Cond.arrayOf (.arg 0) .int).before args s = true := hs _ (by decide +kernel)
  have hle : (Cond.le (.length (.arg 0)) (.int 2560)).before args s = true := hs _ (by decide +kernel)
  have hlen : (Cond.isInt (.length (.arg 0))).before args s = true := hq _ (by decide +kernel)
  have hall : (Cond.all (.arg 0) (.isInt (.elem (.arg 0) (.index 0)))).before args s = true := hq _ (by decide +kernel)
  obtain ⟨b, xs, hb, hx⟩ := State.ints_of_pre rfl harr hlen hall
  have hsm : xs.length < 2 ^ 31 := hx.choose_spec.2.2.2
  have hev : (Term.length (.arg 0)).eval args s none [] s = some (.int xs.length.toInt32) := hx.length_eval hb
  have hv := Cond.le_ints hev (show (Term.int 2560).eval args s none [] s = some (.int 2560) from rfl)
  have hd : xs.length.toInt32 ≤ 2560 := by
    simpa [Cond.before, Cond.holds, hv] using hle
  have hN : xs.length ≤ 2560 := (Int32.ofNat_le_ofNat hsm (by decide)).mp (show Int32.ofNat xs.length ≤ Int32.ofNat 2560 from hd)
  exact ⟨b, xs, Cond.one_arg hc (show args[0]? = some (.ref b) from hb), hx, hN, h⟩
theorem lw_comes (l : Launch) : Comes l x (Jvm.Cond.code x code maxLocals ret :: tables_1) room_1 (fun tb e args s => Calls_1 tb e args s ∧ rest_1 tb e args s ∧ Pre_1 tb e args s)
    (fun _ _ args s o t => lw_Q args s o t) := by
  intro p e ha hc hk s m args below hf hfit hheap happ hpre
  obtain ⟨b, xs, hP⟩ := lw_pre_spec hpre.2.2 hpre.2.1
  obtain ⟨k, o, h1, h2, h3, hQ⟩ := lw_walk l b xs p e ha hc hk s m args below hf ((Spec.applies_iff_loose hf).mp happ).1 hP trivial
  exact ⟨k, o, h1, h2, h3, hQ⟩
theorem lw_frame {s t : State} {o : Outcome} {args : Array Value} (h : Framed s o t [] 600000 7302250) :
    Framed s o t (fieldLocs frame_1_writes args s ++ arrayLocs frame_1_arrays args s ++ staticLocs frame_1_statics s) 600000 7302250 := h
theorem lw_limb (L : Cond) (hL : ∀ (args : Array Value) (s t : State), L.after args s (.returned (some (.int 1))) t = true) :
    ArmFor flags0 classFile x code maxLocals ret World_1 tables_1 room_1 Calls_1 rest_1 Pre_1
      (fun tb e a s o t => postC L tb e a s o t ∧ Framed s o t (fieldLocs frame_1_writes a s ++ arrayLocs frame_1_arrays a s ++ staticLocs frame_1_statics s) 600000 7302250) := by
  intro l _ _ _ p e ha hc hk s m args below hf hfit hheap happ hpre
  obtain ⟨k, o, h1, h2, h3, rfl, hF⟩ := lw_comes l p e ha hc hk s m args below hf hfit hheap happ hpre
  exact ⟨k, _, h1, h2, h3, hL args s _, lw_frame hF⟩
theorem i_vc : Claimed_1_1 ∧ Claimed_1_2 := ⟨lw_limb limb_1_1 (fun args s t => by simp [limb_1_1, Cond.after, Cond.holds, Cond.value]), lw_limb limb_1_2 (fun args s t => Cond.after_iff.mpr (by
  first | (rw [show limb_1_2 = Cond.eq .result (.int 1) from rfl, Cond.eq_ints (x := 1) (y := 1) rfl rfl]; simp; done) | (simp [limb_1_2, Cond.value, Term.eval]; done)))⟩
end
