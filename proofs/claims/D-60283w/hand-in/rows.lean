section
-- ===== PART A: goes FIRST, ahead of the names: the tables' words, and 'selects' of the private methods out of them =====
/-- a private method of a class that the tables say can be made, by its rows of tables_1 -/
def lw_okq (q : MethodName × Nat) : Prop := (q.1.cls ≠ "java/lang/invoke/MethodHandle" ∧ q.1.cls ≠ "java/lang/invoke/VarHandle") ∧ Cond.instantiable q.1.cls q.2 ∈ tables_1 ∧ Cond.privateMethod q.1 ∈ tables_1 ∧ Cond.instanceMethod q.1 ∈ tables_1
set_option maxRecDepth 100000
theorem lw_t1 {w : Cond} (h : w ∈ tables_1_1) : w ∈ tables_1 := List.mem_append_left _ h
theorem lw_t2 {w : Cond} (h : w ∈ tables_1_2) : w ∈ tables_1 := List.mem_append_right _ h
theorem lw_p0 : lw_okq (⟨"HeapGames", "badHeap", "(I)Z"⟩, 3) := ⟨⟨by decide +kernel, by decide +kernel⟩, lw_t1 (List.mem_of_getElem? (i := 4) rfl), lw_t1 (List.mem_of_getElem? (i := 27) rfl), lw_t1 (List.mem_of_getElem? (i := 28) rfl)⟩
theorem lw_p1 : lw_okq (⟨"HeapGames", "badGame", "(I)Z"⟩, 3) := ⟨⟨by decide +kernel, by decide +kernel⟩, lw_t1 (List.mem_of_getElem? (i := 4) rfl), lw_t1 (List.mem_of_getElem? (i := 39) rfl), lw_t1 (List.mem_of_getElem? (i := 40) rfl)⟩
theorem lw_p2 : lw_okq (⟨"HeapGames", "single", "()I"⟩, 3) := ⟨⟨by decide +kernel, by decide +kernel⟩, lw_t1 (List.mem_of_getElem? (i := 4) rfl), lw_t1 (List.mem_of_getElem? (i := 43) rfl), lw_t1 (List.mem_of_getElem? (i := 44) rfl)⟩
theorem lw_p3 : lw_okq (⟨"HeapGames", "wonWith", "(II)Z"⟩, 3) := ⟨⟨by decide +kernel, by decide +kernel⟩, lw_t1 (List.mem_of_getElem? (i := 4) rfl), lw_t1 (List.mem_of_getElem? (i := 47) rfl), lw_t1 (List.mem_of_getElem? (i := 48) rfl)⟩
theorem lw_p4 : lw_okq (⟨"HeapGames", "leastPart", "(I)I"⟩, 3) := ⟨⟨by decide +kernel, by decide +kernel⟩, lw_t1 (List.mem_of_getElem? (i := 4) rfl), lw_t1 (List.mem_of_getElem? (i := 51) rfl), lw_t1 (List.mem_of_getElem? (i := 52) rfl)⟩
theorem lw_p5 : lw_okq (⟨"HeapGames", "isWon", "(IIII)Z"⟩, 3) := ⟨⟨by decide +kernel, by decide +kernel⟩, lw_t1 (List.mem_of_getElem? (i := 4) rfl), lw_t1 (List.mem_of_getElem? (i := 55) rfl), lw_t1 (List.mem_of_getElem? (i := 56) rfl)⟩
theorem lw_p6 : lw_okq (⟨"HeapGames", "wonLast", "(III)Z"⟩, 3) := ⟨⟨by decide +kernel, by decide +kernel⟩, lw_t1 (List.mem_of_getElem? (i := 4) rfl), lw_t1 (List.mem_of_getElem? (i := 59) rfl), lw_t1 (List.mem_of_getElem? (i := 60) rfl)⟩
theorem lw_p7 : lw_okq (⟨"HeapGames", "wonGolden", "(II)Z"⟩, 3) := ⟨⟨by decide +kernel, by decide +kernel⟩, lw_t1 (List.mem_of_getElem? (i := 4) rfl), lw_t1 (List.mem_of_getElem? (i := 63) rfl), lw_t1 (List.mem_of_getElem? (i := 64) rfl)⟩
theorem lw_p8 : lw_okq (⟨"HeapGames", "rootOf", "(I)I"⟩, 3) := ⟨⟨by decide +kernel, by decide +kernel⟩, lw_t1 (List.mem_of_getElem? (i := 4) rfl), lw_t1 (List.mem_of_getElem? (i := 67) rfl), lw_t1 (List.mem_of_getElem? (i := 68) rfl)⟩
theorem lw_p9 : lw_okq (⟨"HeapGames", "wonRatio", "(II)Z"⟩, 3) := ⟨⟨by decide +kernel, by decide +kernel⟩, lw_t1 (List.mem_of_getElem? (i := 4) rfl), lw_t1 (List.mem_of_getElem? (i := 71) rfl), lw_t1 (List.mem_of_getElem? (i := 72) rfl)⟩
theorem lw_p10 : lw_okq (⟨"HeapGames", "findMoves", "(IZ)V"⟩, 3) := ⟨⟨by decide +kernel, by decide +kernel⟩, lw_t1 (List.mem_of_getElem? (i := 4) rfl), lw_t1 (List.mem_of_getElem? (i := 79) rfl), lw_t1 (List.mem_of_getElem? (i := 80) rfl)⟩
theorem lw_p11 : lw_okq (⟨"HeapGames", "downStairs", "(Z)V"⟩, 3) := ⟨⟨by decide +kernel, by decide +kernel⟩, lw_t1 (List.mem_of_getElem? (i := 4) rfl), lw_t1 (List.mem_of_getElem? (i := 83) rfl), lw_t1 (List.mem_of_getElem? (i := 84) rfl)⟩
theorem lw_p12 : lw_okq (⟨"HeapGames", "consider", "(IIIIZ)V"⟩, 3) := ⟨⟨by decide +kernel, by decide +kernel⟩, lw_t1 (List.mem_of_getElem? (i := 4) rfl), lw_t1 (List.mem_of_getElem? (i := 87) rfl), lw_t1 (List.mem_of_getElem? (i := 88) rfl)⟩
theorem lw_p13 : lw_okq (⟨"HeapGames", "keep", "(I)V"⟩, 3) := ⟨⟨by decide +kernel, by decide +kernel⟩, lw_t1 (List.mem_of_getElem? (i := 4) rfl), lw_t1 (List.mem_of_getElem? (i := 91) rfl), lw_t1 (List.mem_of_getElem? (i := 92) rfl)⟩
theorem lw_p14 : lw_okq (⟨"HeapGames", "multiples", "(Z)V"⟩, 3) := ⟨⟨by decide +kernel, by decide +kernel⟩, lw_t1 (List.mem_of_getElem? (i := 4) rfl), lw_t1 (List.mem_of_getElem? (i := 95) rfl), lw_t1 (List.mem_of_getElem? (i := 96) rfl)⟩
theorem lw_p15 : lw_okq (⟨"HeapGames", "fromSingle", "(Z)V"⟩, 3) := ⟨⟨by decide +kernel, by decide +kernel⟩, lw_t1 (List.mem_of_getElem? (i := 4) rfl), lw_t1 (List.mem_of_getElem? (i := 99) rfl), lw_t1 (List.mem_of_getElem? (i := 100) rfl)⟩
def lw_privs_1 : List (MethodName × Nat) := [(⟨"HeapGames", "badHeap", "(I)Z"⟩, 3), (⟨"HeapGames", "badGame", "(I)Z"⟩, 3), (⟨"HeapGames", "single", "()I"⟩, 3), (⟨"HeapGames", "wonWith", "(II)Z"⟩, 3), (⟨"HeapGames", "leastPart", "(I)I"⟩, 3), (⟨"HeapGames", "isWon", "(IIII)Z"⟩, 3), (⟨"HeapGames", "wonLast", "(III)Z"⟩, 3), (⟨"HeapGames", "wonGolden", "(II)Z"⟩, 3), (⟨"HeapGames", "rootOf", "(I)I"⟩, 3), (⟨"HeapGames", "wonRatio", "(II)Z"⟩, 3), (⟨"HeapGames", "findMoves", "(IZ)V"⟩, 3), (⟨"HeapGames", "downStairs", "(Z)V"⟩, 3), (⟨"HeapGames", "consider", "(IIIIZ)V"⟩, 3), (⟨"HeapGames", "keep", "(I)V"⟩, 3), (⟨"HeapGames", "multiples", "(Z)V"⟩, 3), (⟨"HeapGames", "fromSingle", "(Z)V"⟩, 3)]
theorem lw_r1 : ∀ q ∈ lw_privs_1, lw_okq q := List.forall_mem_cons.mpr ⟨lw_p0, List.forall_mem_cons.mpr ⟨lw_p1, List.forall_mem_cons.mpr ⟨lw_p2, List.forall_mem_cons.mpr ⟨lw_p3, List.forall_mem_cons.mpr ⟨lw_p4, List.forall_mem_cons.mpr ⟨lw_p5, List.forall_mem_cons.mpr ⟨lw_p6, List.forall_mem_cons.mpr ⟨lw_p7, List.forall_mem_cons.mpr ⟨lw_p8, List.forall_mem_cons.mpr ⟨lw_p9, List.forall_mem_cons.mpr ⟨lw_p10, List.forall_mem_cons.mpr ⟨lw_p11, List.forall_mem_cons.mpr ⟨lw_p12, List.forall_mem_cons.mpr ⟨lw_p13, List.forall_mem_cons.mpr ⟨lw_p14, List.forall_mem_cons.mpr ⟨lw_p15, fun _ h => absurd h List.not_mem_nil⟩⟩⟩⟩⟩⟩⟩⟩⟩⟩⟩⟩⟩⟩⟩⟩
theorem lw_p16 : lw_okq (⟨"HeapGames", "fromOne", "(IIZ)V"⟩, 3) := ⟨⟨by decide +kernel, by decide +kernel⟩, lw_t1 (List.mem_of_getElem? (i := 4) rfl), lw_t1 (List.mem_of_getElem? (i := 103) rfl), lw_t1 (List.mem_of_getElem? (i := 104) rfl)⟩
theorem lw_p17 : lw_okq (⟨"HeapGames", "fromTwo", "(IZ)V"⟩, 3) := ⟨⟨by decide +kernel, by decide +kernel⟩, lw_t1 (List.mem_of_getElem? (i := 4) rfl), lw_t1 (List.mem_of_getElem? (i := 107) rfl), lw_t1 (List.mem_of_getElem? (i := 108) rfl)⟩
theorem lw_p18 : lw_okq (⟨"HeapGames", "equallyMany", "(Z)V"⟩, 3) := ⟨⟨by decide +kernel, by decide +kernel⟩, lw_t1 (List.mem_of_getElem? (i := 4) rfl), lw_t1 (List.mem_of_getElem? (i := 111) rfl), lw_t1 (List.mem_of_getElem? (i := 112) rfl)⟩
theorem lw_p19 : lw_okq (⟨"HeapGamesModel", "noGame", "(I)Z"⟩, 11) := ⟨⟨by decide +kernel, by decide +kernel⟩, lw_t1 (List.mem_of_getElem? (i := 132) rfl), lw_t1 (List.mem_of_getElem? (i := 185) rfl), lw_t1 (List.mem_of_getElem? (i := 186) rfl)⟩
theorem lw_p20 : lw_okq (⟨"HeapGamesModel", "search", "(I)I"⟩, 11) := ⟨⟨by decide +kernel, by decide +kernel⟩, lw_t1 (List.mem_of_getElem? (i := 132) rfl), lw_t1 (List.mem_of_getElem? (i := 189) rfl), lw_t1 (List.mem_of_getElem? (i := 190) rfl)⟩
theorem lw_p21 : lw_okq (⟨"HeapGamesModel", "fillLimited", "()V"⟩, 11) := ⟨⟨by decide +kernel, by decide +kernel⟩, lw_t1 (List.mem_of_getElem? (i := 132) rfl), lw_t1 (List.mem_of_getElem? (i := 193) rfl), lw_t1 (List.mem_of_getElem? (i := 194) rfl)⟩
theorem lw_p22 : lw_okq (⟨"HeapGamesModel", "atMost", "(I)I"⟩, 11) := ⟨⟨by decide +kernel, by decide +kernel⟩, lw_t1 (List.mem_of_getElem? (i := 132) rfl), lw_t1 (List.mem_of_getElem? (i := 197) rfl), lw_t1 (List.mem_of_getElem? (i := 198) rfl)⟩
theorem lw_p23 : lw_okq (⟨"HeapGamesModel", "counters", "()I"⟩, 11) := ⟨⟨by decide +kernel, by decide +kernel⟩, lw_t1 (List.mem_of_getElem? (i := 132) rfl), lw_t1 (List.mem_of_getElem? (i := 201) rfl), lw_t1 (List.mem_of_getElem? (i := 202) rfl)⟩
theorem lw_p24 : lw_okq (⟨"HeapGamesModel", "note", "(I)V"⟩, 11) := ⟨⟨by decide +kernel, by decide +kernel⟩, lw_t1 (List.mem_of_getElem? (i := 132) rfl), lw_t1 (List.mem_of_getElem? (i := 205) rfl), lw_t1 (List.mem_of_getElem? (i := 206) rfl)⟩
theorem lw_p25 : lw_okq (⟨"HeapGamesModel", "fill", "(I)V"⟩, 11) := ⟨⟨by decide +kernel, by decide +kernel⟩, lw_t1 (List.mem_of_getElem? (i := 132) rfl), lw_t1 (List.mem_of_getElem? (i := 209) rfl), lw_t1 (List.mem_of_getElem? (i := 210) rfl)⟩
theorem lw_p26 : lw_okq (⟨"HeapGamesModel", "judge", "(IIII)V"⟩, 11) := ⟨⟨by decide +kernel, by decide +kernel⟩, lw_t1 (List.mem_of_getElem? (i := 132) rfl), lw_t1 (List.mem_of_getElem? (i := 213) rfl), lw_t1 (List.mem_of_getElem? (i := 214) rfl)⟩
theorem lw_p27 : lw_okq (⟨"HeapGamesModel", "key", "(III)I"⟩, 11) := ⟨⟨by decide +kernel, by decide +kernel⟩, lw_t1 (List.mem_of_getElem? (i := 132) rfl), lw_t1 (List.mem_of_getElem? (i := 217) rfl), lw_t1 (List.mem_of_getElem? (i := 218) rfl)⟩
theorem lw_p28 : lw_okq (⟨"HeapGamesModel", "findsLost", "(III)Z"⟩, 11) := ⟨⟨by decide +kernel, by decide +kernel⟩, lw_t1 (List.mem_of_getElem? (i := 132) rfl), lw_t1 (List.mem_of_getElem? (i := 221) rfl), lw_t1 (List.mem_of_getElem? (i := 222) rfl)⟩
theorem lw_p29 : lw_okq (⟨"HeapGamesModel", "isLost", "(III)Z"⟩, 11) := ⟨⟨by decide +kernel, by decide +kernel⟩, lw_t1 (List.mem_of_getElem? (i := 132) rfl), lw_t1 (List.mem_of_getElem? (i := 225) rfl), lw_t1 (List.mem_of_getElem? (i := 226) rfl)⟩
theorem lw_p30 : lw_okq (⟨"HeapGamesModel", "list", "(IIII)V"⟩, 11) := ⟨⟨by decide +kernel, by decide +kernel⟩, lw_t1 (List.mem_of_getElem? (i := 132) rfl), lw_t1 (List.mem_of_getElem? (i := 229) rfl), lw_t1 (List.mem_of_getElem? (i := 230) rfl)⟩
theorem lw_p31 : lw_okq (⟨"HeapGamesModel", "listPushes", "(III)V"⟩, 11) := ⟨⟨by decide +kernel, by decide +kernel⟩, lw_t1 (List.mem_of_getElem? (i := 132) rfl), lw_t1 (List.mem_of_getElem? (i := 233) rfl), lw_t1 (List.mem_of_getElem? (i := 234) rfl)⟩
def lw_privs_2 : List (MethodName × Nat) := [(⟨"HeapGames", "fromOne", "(IIZ)V"⟩, 3), (⟨"HeapGames", "fromTwo", "(IZ)V"⟩, 3), (⟨"HeapGames", "equallyMany", "(Z)V"⟩, 3), (⟨"HeapGamesModel", "noGame", "(I)Z"⟩, 11), (⟨"HeapGamesModel", "search", "(I)I"⟩, 11), (⟨"HeapGamesModel", "fillLimited", "()V"⟩, 11), (⟨"HeapGamesModel", "atMost", "(I)I"⟩, 11), (⟨"HeapGamesModel", "counters", "()I"⟩, 11), (⟨"HeapGamesModel", "note", "(I)V"⟩, 11), (⟨"HeapGamesModel", "fill", "(I)V"⟩, 11), (⟨"HeapGamesModel", "judge", "(IIII)V"⟩, 11), (⟨"HeapGamesModel", "key", "(III)I"⟩, 11), (⟨"HeapGamesModel", "findsLost", "(III)Z"⟩, 11), (⟨"HeapGamesModel", "isLost", "(III)Z"⟩, 11), (⟨"HeapGamesModel", "list", "(IIII)V"⟩, 11), (⟨"HeapGamesModel", "listPushes", "(III)V"⟩, 11)]
theorem lw_r2 : ∀ q ∈ lw_privs_2, lw_okq q := List.forall_mem_cons.mpr ⟨lw_p16, List.forall_mem_cons.mpr ⟨lw_p17, List.forall_mem_cons.mpr ⟨lw_p18, List.forall_mem_cons.mpr ⟨lw_p19, List.forall_mem_cons.mpr ⟨lw_p20, List.forall_mem_cons.mpr ⟨lw_p21, List.forall_mem_cons.mpr ⟨lw_p22, List.forall_mem_cons.mpr ⟨lw_p23, List.forall_mem_cons.mpr ⟨lw_p24, List.forall_mem_cons.mpr ⟨lw_p25, List.forall_mem_cons.mpr ⟨lw_p26, List.forall_mem_cons.mpr ⟨lw_p27, List.forall_mem_cons.mpr ⟨lw_p28, List.forall_mem_cons.mpr ⟨lw_p29, List.forall_mem_cons.mpr ⟨lw_p30, List.forall_mem_cons.mpr ⟨lw_p31, fun _ h => absurd h List.not_mem_nil⟩⟩⟩⟩⟩⟩⟩⟩⟩⟩⟩⟩⟩⟩⟩⟩
theorem lw_p32 : lw_okq (⟨"HeapGamesModel", "leave", "(III)V"⟩, 11) := ⟨⟨by decide +kernel, by decide +kernel⟩, lw_t1 (List.mem_of_getElem? (i := 132) rfl), lw_t1 (List.mem_of_getElem? (i := 237) rfl), lw_t1 (List.mem_of_getElem? (i := 238) rfl)⟩
theorem lw_p33 : lw_okq (⟨"HeapGamesModel", "listEqual", "(III)V"⟩, 11) := ⟨⟨by decide +kernel, by decide +kernel⟩, lw_t1 (List.mem_of_getElem? (i := 132) rfl), lw_t2 (List.mem_of_getElem? (i := 1) rfl), lw_t2 (List.mem_of_getElem? (i := 2) rfl)⟩
theorem lw_p34 : lw_okq (⟨"HeapGamesModel", "listMultiples", "(III)V"⟩, 11) := ⟨⟨by decide +kernel, by decide +kernel⟩, lw_t1 (List.mem_of_getElem? (i := 132) rfl), lw_t2 (List.mem_of_getElem? (i := 5) rfl), lw_t2 (List.mem_of_getElem? (i := 6) rfl)⟩
theorem lw_p35 : lw_okq (⟨"HeapGamesModel", "listSingles", "(IIII)V"⟩, 11) := ⟨⟨by decide +kernel, by decide +kernel⟩, lw_t1 (List.mem_of_getElem? (i := 132) rfl), lw_t2 (List.mem_of_getElem? (i := 9) rfl), lw_t2 (List.mem_of_getElem? (i := 10) rfl)⟩
def lw_privs_3 : List (MethodName × Nat) := [(⟨"HeapGamesModel", "leave", "(III)V"⟩, 11), (⟨"HeapGamesModel", "listEqual", "(III)V"⟩, 11), (⟨"HeapGamesModel", "listMultiples", "(III)V"⟩, 11), (⟨"HeapGamesModel", "listSingles", "(IIII)V"⟩, 11)]
theorem lw_r3 : ∀ q ∈ lw_privs_3, lw_okq q := List.forall_mem_cons.mpr ⟨lw_p32, List.forall_mem_cons.mpr ⟨lw_p33, List.forall_mem_cons.mpr ⟨lw_p34, List.forall_mem_cons.mpr ⟨lw_p35, fun _ h => absurd h List.not_mem_nil⟩⟩⟩⟩
def lw_privs : List (MethodName × Nat) := lw_privs_1 ++ (lw_privs_2 ++ (lw_privs_3))
def lw_tbl : List Cond := k2_sels lw_privs ++ tables_1
theorem lw_privs_ok : ∀ q ∈ lw_privs, lw_okq q := by
  show ∀ q ∈ lw_privs_1 ++ (lw_privs_2 ++ (lw_privs_3)), lw_okq q
  exact List.forall_mem_append.mpr ⟨lw_r1, List.forall_mem_append.mpr ⟨lw_r2, lw_r3⟩⟩
-- ===== ONE list of words for every method: the tables' words that hold all through a run =====
def lw_all : List Cond := lw_tbl.filter goodWord
/-- a word of the tables by its place: claim/WORDS.tsv -/
theorem lw_w {w : Cond} (i : Nat) (h : lw_tbl[i]? = some w) (g : goodWord w = true) : w ∈ lw_all := List.mem_filter.mpr ⟨List.mem_of_getElem? h, g⟩
theorem lw_all_tbl {w : Cond} (h : w ∈ lw_all) : w ∈ lw_tbl := (List.mem_filter.mp h).1
theorem lw_self : GoodIn lw_all lw_all := fun w h => ⟨h, good_of_word (List.mem_filter.mp h).2⟩
/-- a class's field words, by their places -/
theorem lw_in (ws : List Cond) (ps : List Nat) (hp : ws = ps.filterMap (fun i => lw_tbl[i]?)) (hg : ws.all goodWord = true) : ∀ w ∈ ws, w ∈ lw_all := by
  intro w h
  have h1 := List.all_eq_true.mp hg w h
  rw [hp] at h
  obtain ⟨i, -, hi⟩ := List.mem_filterMap.mp h
  exact lw_w i hi h1
/-- the words of a contract for the method y with code b, L locals, answer r -/
abbrev ws_ (y : MethodName) (b : ByteArray) (L : Nat) (r : Option FieldType) : List Cond := Cond.code y b L r :: lw_all
theorem lw_meth {y : MethodName} {b : ByteArray} {L : Nat} {r : Option FieldType} (h : Cond.code y b L r ∈ lw_all) : GoodIn lw_all (ws_ y b L r) := by
  intro w hw
  rcases List.mem_cons.mp hw with e | e
  · rw [e]
    exact lw_self _ h
  · exact lw_self _ e
theorem lw_app {a c : List Cond} (ha : ∀ w ∈ a, w ∈ lw_all) (hc : GoodIn lw_all c) : GoodIn lw_all (a ++ c) := by
  intro w hw
  rcases List.mem_append.mp hw with e | e
  · exact lw_self w (ha w e)
  · exact hc w e
/-- what a call through an object asks: cwV n hts (lw_V ..) -/
theorem lw_V {own : String} {idx : Nat} {C : String} {y : MethodName} {b : ByteArray} {L : Nat} {r : Option FieldType} (h1 : Cond.methodLink own idx y ∈ lw_all) (h2 : Cond.instanceMethod y ∈ lw_all) (h3 : Cond.selects C y y ∈ lw_all) (h4 : Cond.initialized C ∈ lw_all) (h5 : Cond.code y b L r ∈ lw_all) : GoodIn lw_all (wsV own idx C y (ws_ y b L r)) := by
  refine lw_app ?_ (lw_meth h5)
  intro w hw
  simp only [List.mem_cons, List.not_mem_nil, or_false] at hw
  rcases hw with e | e | e | e
  · rw [e]; exact h1
  · rw [e]; exact h2
  · rw [e]; exact h3
  · rw [e]; exact h4
/-- what a static call asks: va_cwS n hts (lw_S ..) -/
theorem lw_S {own : String} {idx : Nat} {y : MethodName} {b : ByteArray} {L : Nat} {r : Option FieldType} (h1 : Cond.methodLink own idx y ∈ lw_all) (h2 : Cond.static y ∈ lw_all) (h3 : Cond.initialized y.cls ∈ lw_all) (h4 : Cond.code y b L r ∈ lw_all) : GoodIn lw_all (va_wsS own idx y (ws_ y b L r)) := by
  refine lw_app ?_ (lw_meth h4)
  intro w hw
  simp only [List.mem_cons, List.not_mem_nil, or_false] at hw
  rcases hw with e | e | e
  · rw [e]; exact h1
  · rw [e]; exact h2
  · rw [e]; exact h3
/-- the words of a contract for a method WITH HANDLERS (hh: its table) -/
abbrev wsW_ (y : MethodName) (b : ByteArray) (L : Nat) (r : Option FieldType) (hh : List (Nat × Nat × Nat × Nat)) : List Cond := Cond.codeWith y b L r hh :: lw_all
theorem lw_methW {y : MethodName} {b : ByteArray} {L : Nat} {r : Option FieldType} {hh : List (Nat × Nat × Nat × Nat)} (h : Cond.codeWith y b L r hh ∈ lw_all) : GoodIn lw_all (wsW_ y b L r hh) := by
  intro w hw
  rcases List.mem_cons.mp hw with e | e
  · rw [e]
    exact lw_self _ h
  · exact lw_self _ e
/-- any list of words by their places (lw_in), good -/
theorem lw_good {ws : List Cond} (h : ∀ w ∈ ws, w ∈ lw_all) : GoodIn lw_all ws := fun w hw => lw_self w (h w hw)
/-- what a call of a method with handlers asks: vx_cwVW n hts (lw_VW ..), vx_cwSW n hts (lw_SW ..) -/
theorem lw_VW {own : String} {idx : Nat} {C : String} {y : MethodName} {b : ByteArray} {L : Nat} {r : Option FieldType} {hh : List (Nat × Nat × Nat × Nat)} (h1 : Cond.methodLink own idx y ∈ lw_all) (h2 : Cond.instanceMethod y ∈ lw_all) (h3 : Cond.selects C y y ∈ lw_all) (h4 : Cond.initialized C ∈ lw_all) (h5 : Cond.codeWith y b L r hh ∈ lw_all) : GoodIn lw_all (wsV own idx C y (wsW_ y b L r hh)) := by
  refine lw_app ?_ (lw_methW h5)
  intro w hw
  simp only [List.mem_cons, List.not_mem_nil, or_false] at hw
  rcases hw with e | e | e | e
  · rw [e]; exact h1
  · rw [e]; exact h2
  · rw [e]; exact h3
  · rw [e]; exact h4
theorem lw_SW {own : String} {idx : Nat} {y : MethodName} {b : ByteArray} {L : Nat} {r : Option FieldType} {hh : List (Nat × Nat × Nat × Nat)} (h1 : Cond.methodLink own idx y ∈ lw_all) (h2 : Cond.static y ∈ lw_all) (h3 : Cond.initialized y.cls ∈ lw_all) (h4 : Cond.codeWith y b L r hh ∈ lw_all) : GoodIn lw_all (va_wsS own idx y (wsW_ y b L r hh)) := by
  refine lw_app ?_ (lw_methW h4)
  intro w hw
  simp only [List.mem_cons, List.not_mem_nil, or_false] at hw
  rcases hw with e | e | e
  · rw [e]; exact h1
  · rw [e]; exact h2
  · rw [e]; exact h3
/-- a word by its place in its run of the tables -/
theorem lw_at {r : List Cond} (hr : ∀ w ∈ r, w ∈ lw_tbl) {w : Cond} (i : Nat) (h : r[i]? = some w) : w ∈ lw_tbl := hr w (List.mem_of_getElem? h)
theorem lw_g {w : Cond} (h : w ∈ lw_tbl) (g : goodWord w = true) : w ∈ lw_all := List.mem_filter.mpr ⟨h, g⟩
theorem lw_ms : ∀ w ∈ k2_sels lw_privs, w ∈ lw_tbl := fun w h => show w ∈ k2_sels lw_privs ++ tables_1 from List.mem_append_left _ h
theorem lw_m1 : ∀ w ∈ tables_1_1, w ∈ lw_tbl := fun w h => show w ∈ k2_sels lw_privs ++ tables_1 from List.mem_append_right (k2_sels lw_privs) (show w ∈ tables_1 from List.mem_append_left _ h)
theorem lw_m2 : ∀ w ∈ tables_1_2, w ∈ lw_tbl := fun w h => show w ∈ k2_sels lw_privs ++ tables_1 from List.mem_append_right (k2_sels lw_privs) (show w ∈ tables_1 from List.mem_append_right _ h)
theorem qs0 : (Cond.selects "HeapGames" ⟨"HeapGames", "badHeap", "(I)Z"⟩ ⟨"HeapGames", "badHeap", "(I)Z"⟩) ∈ lw_all := lw_g (lw_at lw_ms 0 rfl) rfl
theorem qs1 : (Cond.selects "HeapGames" ⟨"HeapGames", "badGame", "(I)Z"⟩ ⟨"HeapGames", "badGame", "(I)Z"⟩) ∈ lw_all := lw_g (lw_at lw_ms 1 rfl) rfl
theorem qs2 : (Cond.selects "HeapGames" ⟨"HeapGames", "single", "()I"⟩ ⟨"HeapGames", "single", "()I"⟩) ∈ lw_all := lw_g (lw_at lw_ms 2 rfl) rfl
theorem qs3 : (Cond.selects "HeapGames" ⟨"HeapGames", "wonWith", "(II)Z"⟩ ⟨"HeapGames", "wonWith", "(II)Z"⟩) ∈ lw_all := lw_g (lw_at lw_ms 3 rfl) rfl
theorem qs4 : (Cond.selects "HeapGames" ⟨"HeapGames", "leastPart", "(I)I"⟩ ⟨"HeapGames", "leastPart", "(I)I"⟩) ∈ lw_all := lw_g (lw_at lw_ms 4 rfl) rfl
theorem qs5 : (Cond.selects "HeapGames" ⟨"HeapGames", "isWon", "(IIII)Z"⟩ ⟨"HeapGames", "isWon", "(IIII)Z"⟩) ∈ lw_all := lw_g (lw_at lw_ms 5 rfl) rfl
theorem qs6 : (Cond.selects "HeapGames" ⟨"HeapGames", "wonLast", "(III)Z"⟩ ⟨"HeapGames", "wonLast", "(III)Z"⟩) ∈ lw_all := lw_g (lw_at lw_ms 6 rfl) rfl
theorem qs7 : (Cond.selects "HeapGames" ⟨"HeapGames", "wonGolden", "(II)Z"⟩ ⟨"HeapGames", "wonGolden", "(II)Z"⟩) ∈ lw_all := lw_g (lw_at lw_ms 7 rfl) rfl
theorem qs8 : (Cond.selects "HeapGames" ⟨"HeapGames", "rootOf", "(I)I"⟩ ⟨"HeapGames", "rootOf", "(I)I"⟩) ∈ lw_all := lw_g (lw_at lw_ms 8 rfl) rfl
theorem qs9 : (Cond.selects "HeapGames" ⟨"HeapGames", "wonRatio", "(II)Z"⟩ ⟨"HeapGames", "wonRatio", "(II)Z"⟩) ∈ lw_all := lw_g (lw_at lw_ms 9 rfl) rfl
theorem qs10 : (Cond.selects "HeapGames" ⟨"HeapGames", "findMoves", "(IZ)V"⟩ ⟨"HeapGames", "findMoves", "(IZ)V"⟩) ∈ lw_all := lw_g (lw_at lw_ms 10 rfl) rfl
theorem qs11 : (Cond.selects "HeapGames" ⟨"HeapGames", "downStairs", "(Z)V"⟩ ⟨"HeapGames", "downStairs", "(Z)V"⟩) ∈ lw_all := lw_g (lw_at lw_ms 11 rfl) rfl
theorem qs12 : (Cond.selects "HeapGames" ⟨"HeapGames", "consider", "(IIIIZ)V"⟩ ⟨"HeapGames", "consider", "(IIIIZ)V"⟩) ∈ lw_all := lw_g (lw_at lw_ms 12 rfl) rfl
theorem qs13 : (Cond.selects "HeapGames" ⟨"HeapGames", "keep", "(I)V"⟩ ⟨"HeapGames", "keep", "(I)V"⟩) ∈ lw_all := lw_g (lw_at lw_ms 13 rfl) rfl
theorem qs14 : (Cond.selects "HeapGames" ⟨"HeapGames", "multiples", "(Z)V"⟩ ⟨"HeapGames", "multiples", "(Z)V"⟩) ∈ lw_all := lw_g (lw_at lw_ms 14 rfl) rfl
theorem qs15 : (Cond.selects "HeapGames" ⟨"HeapGames", "fromSingle", "(Z)V"⟩ ⟨"HeapGames", "fromSingle", "(Z)V"⟩) ∈ lw_all := lw_g (lw_at lw_ms 15 rfl) rfl
theorem qs16 : (Cond.selects "HeapGames" ⟨"HeapGames", "fromOne", "(IIZ)V"⟩ ⟨"HeapGames", "fromOne", "(IIZ)V"⟩) ∈ lw_all := lw_g (lw_at lw_ms 16 rfl) rfl
theorem qs17 : (Cond.selects "HeapGames" ⟨"HeapGames", "fromTwo", "(IZ)V"⟩ ⟨"HeapGames", "fromTwo", "(IZ)V"⟩) ∈ lw_all := lw_g (lw_at lw_ms 17 rfl) rfl
theorem qs18 : (Cond.selects "HeapGames" ⟨"HeapGames", "equallyMany", "(Z)V"⟩ ⟨"HeapGames", "equallyMany", "(Z)V"⟩) ∈ lw_all := lw_g (lw_at lw_ms 18 rfl) rfl
theorem qs19 : (Cond.selects "HeapGamesModel" ⟨"HeapGamesModel", "noGame", "(I)Z"⟩ ⟨"HeapGamesModel", "noGame", "(I)Z"⟩) ∈ lw_all := lw_g (lw_at lw_ms 19 rfl) rfl
theorem qs20 : (Cond.selects "HeapGamesModel" ⟨"HeapGamesModel", "search", "(I)I"⟩ ⟨"HeapGamesModel", "search", "(I)I"⟩) ∈ lw_all := lw_g (lw_at lw_ms 20 rfl) rfl
theorem qs21 : (Cond.selects "HeapGamesModel" ⟨"HeapGamesModel", "fillLimited", "()V"⟩ ⟨"HeapGamesModel", "fillLimited", "()V"⟩) ∈ lw_all := lw_g (lw_at lw_ms 21 rfl) rfl
theorem qs22 : (Cond.selects "HeapGamesModel" ⟨"HeapGamesModel", "atMost", "(I)I"⟩ ⟨"HeapGamesModel", "atMost", "(I)I"⟩) ∈ lw_all := lw_g (lw_at lw_ms 22 rfl) rfl
theorem qs23 : (Cond.selects "HeapGamesModel" ⟨"HeapGamesModel", "counters", "()I"⟩ ⟨"HeapGamesModel", "counters", "()I"⟩) ∈ lw_all := lw_g (lw_at lw_ms 23 rfl) rfl
theorem qs24 : (Cond.selects "HeapGamesModel" ⟨"HeapGamesModel", "note", "(I)V"⟩ ⟨"HeapGamesModel", "note", "(I)V"⟩) ∈ lw_all := lw_g (lw_at lw_ms 24 rfl) rfl
theorem qs25 : (Cond.selects "HeapGamesModel" ⟨"HeapGamesModel", "fill", "(I)V"⟩ ⟨"HeapGamesModel", "fill", "(I)V"⟩) ∈ lw_all := lw_g (lw_at lw_ms 25 rfl) rfl
theorem qs26 : (Cond.selects "HeapGamesModel" ⟨"HeapGamesModel", "judge", "(IIII)V"⟩ ⟨"HeapGamesModel", "judge", "(IIII)V"⟩) ∈ lw_all := lw_g (lw_at lw_ms 26 rfl) rfl
theorem qs27 : (Cond.selects "HeapGamesModel" ⟨"HeapGamesModel", "key", "(III)I"⟩ ⟨"HeapGamesModel", "key", "(III)I"⟩) ∈ lw_all := lw_g (lw_at lw_ms 27 rfl) rfl
theorem qs28 : (Cond.selects "HeapGamesModel" ⟨"HeapGamesModel", "findsLost", "(III)Z"⟩ ⟨"HeapGamesModel", "findsLost", "(III)Z"⟩) ∈ lw_all := lw_g (lw_at lw_ms 28 rfl) rfl
theorem qs29 : (Cond.selects "HeapGamesModel" ⟨"HeapGamesModel", "isLost", "(III)Z"⟩ ⟨"HeapGamesModel", "isLost", "(III)Z"⟩) ∈ lw_all := lw_g (lw_at lw_ms 29 rfl) rfl
theorem qs30 : (Cond.selects "HeapGamesModel" ⟨"HeapGamesModel", "list", "(IIII)V"⟩ ⟨"HeapGamesModel", "list", "(IIII)V"⟩) ∈ lw_all := lw_g (lw_at lw_ms 30 rfl) rfl
theorem qs31 : (Cond.selects "HeapGamesModel" ⟨"HeapGamesModel", "listPushes", "(III)V"⟩ ⟨"HeapGamesModel", "listPushes", "(III)V"⟩) ∈ lw_all := lw_g (lw_at lw_ms 31 rfl) rfl
theorem qs32 : (Cond.selects "HeapGamesModel" ⟨"HeapGamesModel", "leave", "(III)V"⟩ ⟨"HeapGamesModel", "leave", "(III)V"⟩) ∈ lw_all := lw_g (lw_at lw_ms 32 rfl) rfl
theorem qs33 : (Cond.selects "HeapGamesModel" ⟨"HeapGamesModel", "listEqual", "(III)V"⟩ ⟨"HeapGamesModel", "listEqual", "(III)V"⟩) ∈ lw_all := lw_g (lw_at lw_ms 33 rfl) rfl
theorem qs34 : (Cond.selects "HeapGamesModel" ⟨"HeapGamesModel", "listMultiples", "(III)V"⟩ ⟨"HeapGamesModel", "listMultiples", "(III)V"⟩) ∈ lw_all := lw_g (lw_at lw_ms 34 rfl) rfl
theorem qs35 : (Cond.selects "HeapGamesModel" ⟨"HeapGamesModel", "listSingles", "(IIII)V"⟩ ⟨"HeapGamesModel", "listSingles", "(IIII)V"⟩) ∈ lw_all := lw_g (lw_at lw_ms 35 rfl) rfl
end
section
set_option maxRecDepth 100000
/-! HeapGames -/
def RX0 : String := "HeapGames"
def TX0 : u_T := fun k => match k with
  | 0 => ("HeapGames", "heaps", "[I", true)
  | 1 => ("HeapGames", "found", "I", false)
  | _ => ("HeapGames", "moves", "[I", true)
def tyX0 : Nat → FieldType := fun k => match k with
  | 0 => .array .int
  | 1 => .int
  | _ => .array .int
abbrev wsX00 : List Cond := u_ws RX0 TX0 3
theorem nmX0 : ∀ a, a < 3 → ∀ b, b < 3 → a ≠ b → (TX0 a).2.1 ≠ (TX0 b).2.1 := by decide +kernel
theorem tyX0_ok : ∀ k, k < 3 → parseFieldDescriptor (TX0 k).2.2.1 = some (tyX0 k) := by decide +kernel
abbrev cX0_init : ByteArray := prog_1_method_1_code
def yX0_init : MethodName := ⟨RX0, "<init>", "()V"⟩
theorem dX0_init_0 : decode cX0_init 0 = .ok (.aload_n 0, 1) := by decide +kernel
theorem dX0_init_1 : decode cX0_init 1 = .ok (.invokespecial 1, 3) := by decide +kernel
theorem dX0_init_4 : decode cX0_init 4 = .ok (.aload_n 0, 1) := by decide +kernel
theorem dX0_init_5 : decode cX0_init 5 = .ok (.iconst 3, 1) := by decide +kernel
theorem dX0_init_6 : decode cX0_init 6 = .ok (.newarray .int, 2) := by decide +kernel
theorem dX0_init_8 : decode cX0_init 8 = .ok (.putfield 7, 3) := by decide +kernel
theorem dX0_init_11 : decode cX0_init 11 = .ok (.aload_n 0, 1) := by decide +kernel
theorem dX0_init_12 : decode cX0_init 12 = .ok (.sipush 800, 3) := by decide +kernel
theorem dX0_init_15 : decode cX0_init 15 = .ok (.newarray .int, 2) := by decide +kernel
theorem dX0_init_17 : decode cX0_init 17 = .ok (.putfield 13, 3) := by decide +kernel
theorem dX0_init_20 : decode cX0_init 20 = .ok (.aload_n 0, 1) := by decide +kernel
theorem dX0_init_21 : decode cX0_init 21 = .ok (.iconst 0, 1) := by decide +kernel
theorem dX0_init_22 : decode cX0_init 22 = .ok (.putfield 16, 3) := by decide +kernel
theorem dX0_init_25 : decode cX0_init 25 = .ok (.return_, 1) := by decide +kernel
abbrev cX0_heap : ByteArray := prog_1_method_4_code
def yX0_heap : MethodName := ⟨RX0, "heap", "(II)I"⟩
theorem dX0_heap_0 : decode cX0_heap 0 = .ok (.aload_n 0, 1) := by decide +kernel
theorem dX0_heap_1 : decode cX0_heap 1 = .ok (.iload_n 1, 1) := by decide +kernel
theorem dX0_heap_2 : decode cX0_heap 2 = .ok (.invokevirtual 20, 3) := by decide +kernel
theorem dX0_heap_5 : decode cX0_heap 5 = .ok (.ifCond .ne 13, 3) := by decide +kernel
theorem dX0_heap_8 : decode cX0_heap 8 = .ok (.iload_n 2, 1) := by decide +kernel
theorem dX0_heap_9 : decode cX0_heap 9 = .ok (.ifCond .lt 9, 3) := by decide +kernel
theorem dX0_heap_12 : decode cX0_heap 12 = .ok (.iload_n 2, 1) := by decide +kernel
theorem dX0_heap_13 : decode cX0_heap 13 = .ok (.bipush 15, 2) := by decide +kernel
theorem dX0_heap_15 : decode cX0_heap 15 = .ok (.if_icmp .le 5, 3) := by decide +kernel
theorem dX0_heap_18 : decode cX0_heap 18 = .ok (.iconst (-1), 1) := by decide +kernel
theorem dX0_heap_19 : decode cX0_heap 19 = .ok (.ireturn, 1) := by decide +kernel
theorem dX0_heap_20 : decode cX0_heap 20 = .ok (.aload_n 0, 1) := by decide +kernel
theorem dX0_heap_21 : decode cX0_heap 21 = .ok (.getfield 7, 3) := by decide +kernel
theorem dX0_heap_24 : decode cX0_heap 24 = .ok (.iload_n 1, 1) := by decide +kernel
theorem dX0_heap_25 : decode cX0_heap 25 = .ok (.iaload, 1) := by decide +kernel
theorem dX0_heap_26 : decode cX0_heap 26 = .ok (.istore_n 3, 1) := by decide +kernel
theorem dX0_heap_27 : decode cX0_heap 27 = .ok (.aload_n 0, 1) := by decide +kernel
theorem dX0_heap_28 : decode cX0_heap 28 = .ok (.getfield 7, 3) := by decide +kernel
theorem dX0_heap_31 : decode cX0_heap 31 = .ok (.iload_n 1, 1) := by decide +kernel
theorem dX0_heap_32 : decode cX0_heap 32 = .ok (.iload_n 2, 1) := by decide +kernel
theorem dX0_heap_33 : decode cX0_heap 33 = .ok (.iastore, 1) := by decide +kernel
theorem dX0_heap_34 : decode cX0_heap 34 = .ok (.iload_n 3, 1) := by decide +kernel
theorem dX0_heap_35 : decode cX0_heap 35 = .ok (.ireturn, 1) := by decide +kernel
abbrev cX0_badHeap : ByteArray := prog_1_method_3_code
def yX0_badHeap : MethodName := ⟨RX0, "badHeap", "(I)Z"⟩
theorem dX0_badHeap_0 : decode cX0_badHeap 0 = .ok (.iload_n 1, 1) := by decide +kernel
theorem dX0_badHeap_1 : decode cX0_badHeap 1 = .ok (.ifCond .lt 8, 3) := by decide +kernel
theorem dX0_badHeap_4 : decode cX0_badHeap 4 = .ok (.iload_n 1, 1) := by decide +kernel
theorem dX0_badHeap_5 : decode cX0_badHeap 5 = .ok (.iconst 2, 1) := by decide +kernel
theorem dX0_badHeap_6 : decode cX0_badHeap 6 = .ok (.if_icmp .le 7, 3) := by decide +kernel
theorem dX0_badHeap_9 : decode cX0_badHeap 9 = .ok (.iconst 1, 1) := by decide +kernel
theorem dX0_badHeap_10 : decode cX0_badHeap 10 = .ok (.goto 4, 3) := by decide +kernel
theorem dX0_badHeap_13 : decode cX0_badHeap 13 = .ok (.iconst 0, 1) := by decide +kernel
theorem dX0_badHeap_14 : decode cX0_badHeap 14 = .ok (.ireturn, 1) := by decide +kernel
abbrev cX0_has : ByteArray := prog_1_method_5_code
def yX0_has : MethodName := ⟨RX0, "has", "(I)I"⟩
theorem dX0_has_0 : decode cX0_has 0 = .ok (.aload_n 0, 1) := by decide +kernel
theorem dX0_has_1 : decode cX0_has 1 = .ok (.iload_n 1, 1) := by decide +kernel
theorem dX0_has_2 : decode cX0_has 2 = .ok (.invokevirtual 20, 3) := by decide +kernel
theorem dX0_has_5 : decode cX0_has 5 = .ok (.ifCond .eq 7, 3) := by decide +kernel
theorem dX0_has_8 : decode cX0_has 8 = .ok (.iconst (-1), 1) := by decide +kernel
theorem dX0_has_9 : decode cX0_has 9 = .ok (.goto 9, 3) := by decide +kernel
theorem dX0_has_12 : decode cX0_has 12 = .ok (.aload_n 0, 1) := by decide +kernel
theorem dX0_has_13 : decode cX0_has 13 = .ok (.getfield 7, 3) := by decide +kernel
theorem dX0_has_16 : decode cX0_has 16 = .ok (.iload_n 1, 1) := by decide +kernel
theorem dX0_has_17 : decode cX0_has 17 = .ok (.iaload, 1) := by decide +kernel
theorem dX0_has_18 : decode cX0_has 18 = .ok (.ireturn, 1) := by decide +kernel
abbrev cX0_won : ByteArray := prog_1_method_14_code
def yX0_won : MethodName := ⟨RX0, "won", "(I)I"⟩
theorem dX0_won_0 : decode cX0_won 0 = .ok (.aload_n 0, 1) := by decide +kernel
theorem dX0_won_1 : decode cX0_won 1 = .ok (.iload_n 1, 1) := by decide +kernel
theorem dX0_won_2 : decode cX0_won 2 = .ok (.invokevirtual 42, 3) := by decide +kernel
theorem dX0_won_5 : decode cX0_won 5 = .ok (.ifCond .eq 5, 3) := by decide +kernel
theorem dX0_won_8 : decode cX0_won 8 = .ok (.iconst (-1), 1) := by decide +kernel
theorem dX0_won_9 : decode cX0_won 9 = .ok (.ireturn, 1) := by decide +kernel
theorem dX0_won_10 : decode cX0_won 10 = .ok (.iload_n 1, 1) := by decide +kernel
theorem dX0_won_11 : decode cX0_won 11 = .ok (.bipush 6, 2) := by decide +kernel
theorem dX0_won_13 : decode cX0_won 13 = .ok (.if_icmp .ne 20, 3) := by decide +kernel
theorem dX0_won_16 : decode cX0_won 16 = .ok (.aload_n 0, 1) := by decide +kernel
theorem dX0_won_17 : decode cX0_won 17 = .ok (.aload_n 0, 1) := by decide +kernel
theorem dX0_won_18 : decode cX0_won 18 = .ok (.invokevirtual 45, 3) := by decide +kernel
theorem dX0_won_21 : decode cX0_won 21 = .ok (.aload_n 0, 1) := by decide +kernel
theorem dX0_won_22 : decode cX0_won 22 = .ok (.getfield 7, 3) := by decide +kernel
theorem dX0_won_25 : decode cX0_won 25 = .ok (.iconst 2, 1) := by decide +kernel
theorem dX0_won_26 : decode cX0_won 26 = .ok (.iaload, 1) := by decide +kernel
theorem dX0_won_27 : decode cX0_won 27 = .ok (.invokevirtual 49, 3) := by decide +kernel
theorem dX0_won_30 : decode cX0_won 30 = .ok (.goto 26, 3) := by decide +kernel
theorem dX0_won_33 : decode cX0_won 33 = .ok (.aload_n 0, 1) := by decide +kernel
theorem dX0_won_34 : decode cX0_won 34 = .ok (.iload_n 1, 1) := by decide +kernel
theorem dX0_won_35 : decode cX0_won 35 = .ok (.aload_n 0, 1) := by decide +kernel
theorem dX0_won_36 : decode cX0_won 36 = .ok (.getfield 7, 3) := by decide +kernel
theorem dX0_won_39 : decode cX0_won 39 = .ok (.iconst 0, 1) := by decide +kernel
theorem dX0_won_40 : decode cX0_won 40 = .ok (.iaload, 1) := by decide +kernel
theorem dX0_won_41 : decode cX0_won 41 = .ok (.aload_n 0, 1) := by decide +kernel
theorem dX0_won_42 : decode cX0_won 42 = .ok (.getfield 7, 3) := by decide +kernel
theorem dX0_won_45 : decode cX0_won 45 = .ok (.iconst 1, 1) := by decide +kernel
theorem dX0_won_46 : decode cX0_won 46 = .ok (.iaload, 1) := by decide +kernel
theorem dX0_won_47 : decode cX0_won 47 = .ok (.aload_n 0, 1) := by decide +kernel
theorem dX0_won_48 : decode cX0_won 48 = .ok (.getfield 7, 3) := by decide +kernel
theorem dX0_won_51 : decode cX0_won 51 = .ok (.iconst 2, 1) := by decide +kernel
theorem dX0_won_52 : decode cX0_won 52 = .ok (.iaload, 1) := by decide +kernel
theorem dX0_won_53 : decode cX0_won 53 = .ok (.invokevirtual 52, 3) := by decide +kernel
theorem dX0_won_56 : decode cX0_won 56 = .ok (.istore_n 2, 1) := by decide +kernel
theorem dX0_won_57 : decode cX0_won 57 = .ok (.iload_n 2, 1) := by decide +kernel
theorem dX0_won_58 : decode cX0_won 58 = .ok (.ifCond .eq 7, 3) := by decide +kernel
theorem dX0_won_61 : decode cX0_won 61 = .ok (.iconst 1, 1) := by decide +kernel
theorem dX0_won_62 : decode cX0_won 62 = .ok (.goto 4, 3) := by decide +kernel
theorem dX0_won_65 : decode cX0_won 65 = .ok (.iconst 0, 1) := by decide +kernel
theorem dX0_won_66 : decode cX0_won 66 = .ok (.ireturn, 1) := by decide +kernel
abbrev cX0_badGame : ByteArray := prog_1_method_2_code
def yX0_badGame : MethodName := ⟨RX0, "badGame", "(I)Z"⟩
theorem dX0_badGame_0 : decode cX0_badGame 0 = .ok (.iload_n 1, 1) := by decide +kernel
theorem dX0_badGame_1 : decode cX0_badGame 1 = .ok (.ifCond .lt 9, 3) := by decide +kernel
theorem dX0_badGame_4 : decode cX0_badGame 4 = .ok (.iload_n 1, 1) := by decide +kernel
theorem dX0_badGame_5 : decode cX0_badGame 5 = .ok (.bipush 7, 2) := by decide +kernel
theorem dX0_badGame_7 : decode cX0_badGame 7 = .ok (.if_icmp .le 7, 3) := by decide +kernel
theorem dX0_badGame_10 : decode cX0_badGame 10 = .ok (.iconst 1, 1) := by decide +kernel
theorem dX0_badGame_11 : decode cX0_badGame 11 = .ok (.goto 4, 3) := by decide +kernel
theorem dX0_badGame_14 : decode cX0_badGame 14 = .ok (.iconst 0, 1) := by decide +kernel
theorem dX0_badGame_15 : decode cX0_badGame 15 = .ok (.ireturn, 1) := by decide +kernel
abbrev cX0_single : ByteArray := prog_1_method_12_code
def yX0_single : MethodName := ⟨RX0, "single", "()I"⟩
theorem dX0_single_0 : decode cX0_single 0 = .ok (.aload_n 0, 1) := by decide +kernel
theorem dX0_single_1 : decode cX0_single 1 = .ok (.getfield 7, 3) := by decide +kernel
theorem dX0_single_4 : decode cX0_single 4 = .ok (.iconst 0, 1) := by decide +kernel
theorem dX0_single_5 : decode cX0_single 5 = .ok (.iaload, 1) := by decide +kernel
theorem dX0_single_6 : decode cX0_single 6 = .ok (.bipush 16, 2) := by decide +kernel
theorem dX0_single_8 : decode cX0_single 8 = .ok (.aload_n 0, 1) := by decide +kernel
theorem dX0_single_9 : decode cX0_single 9 = .ok (.getfield 7, 3) := by decide +kernel
theorem dX0_single_12 : decode cX0_single 12 = .ok (.iconst 1, 1) := by decide +kernel
theorem dX0_single_13 : decode cX0_single 13 = .ok (.iaload, 1) := by decide +kernel
theorem dX0_single_14 : decode cX0_single 14 = .ok (.imul, 1) := by decide +kernel
theorem dX0_single_15 : decode cX0_single 15 = .ok (.iadd, 1) := by decide +kernel
theorem dX0_single_16 : decode cX0_single 16 = .ok (.istore_n 1, 1) := by decide +kernel
theorem dX0_single_17 : decode cX0_single 17 = .ok (.iload_n 1, 1) := by decide +kernel
theorem dX0_single_18 : decode cX0_single 18 = .ok (.bipush 60, 2) := by decide +kernel
theorem dX0_single_20 : decode cX0_single 20 = .ok (.if_icmp .le 8, 3) := by decide +kernel
theorem dX0_single_23 : decode cX0_single 23 = .ok (.bipush 60, 2) := by decide +kernel
theorem dX0_single_25 : decode cX0_single 25 = .ok (.goto 4, 3) := by decide +kernel
theorem dX0_single_28 : decode cX0_single 28 = .ok (.iload_n 1, 1) := by decide +kernel
theorem dX0_single_29 : decode cX0_single 29 = .ok (.ireturn, 1) := by decide +kernel
abbrev cX0_wonWith : ByteArray := prog_1_method_13_code
def yX0_wonWith : MethodName := ⟨RX0, "wonWith", "(II)Z"⟩
theorem dX0_wonWith_0 : decode cX0_wonWith 0 = .ok (.aload_n 0, 1) := by decide +kernel
theorem dX0_wonWith_1 : decode cX0_wonWith 1 = .ok (.iload_n 1, 1) := by decide +kernel
theorem dX0_wonWith_2 : decode cX0_wonWith 2 = .ok (.invokevirtual 39, 3) := by decide +kernel
theorem dX0_wonWith_5 : decode cX0_wonWith 5 = .ok (.istore_n 3, 1) := by decide +kernel
theorem dX0_wonWith_6 : decode cX0_wonWith 6 = .ok (.iload_n 1, 1) := by decide +kernel
theorem dX0_wonWith_7 : decode cX0_wonWith 7 = .ok (.ifCond .le 12, 3) := by decide +kernel
theorem dX0_wonWith_10 : decode cX0_wonWith 10 = .ok (.iload_n 3, 1) := by decide +kernel
theorem dX0_wonWith_11 : decode cX0_wonWith 11 = .ok (.iload_n 2, 1) := by decide +kernel
theorem dX0_wonWith_12 : decode cX0_wonWith 12 = .ok (.if_icmp .gt 7, 3) := by decide +kernel
theorem dX0_wonWith_15 : decode cX0_wonWith 15 = .ok (.iconst 1, 1) := by decide +kernel
theorem dX0_wonWith_16 : decode cX0_wonWith 16 = .ok (.goto 4, 3) := by decide +kernel
theorem dX0_wonWith_19 : decode cX0_wonWith 19 = .ok (.iconst 0, 1) := by decide +kernel
theorem dX0_wonWith_20 : decode cX0_wonWith 20 = .ok (.ireturn, 1) := by decide +kernel
abbrev cX0_leastPart : ByteArray := prog_1_method_9_code
def yX0_leastPart : MethodName := ⟨RX0, "leastPart", "(I)I"⟩
theorem dX0_leastPart_0 : decode cX0_leastPart 0 = .ok (.iload_n 1, 1) := by decide +kernel
theorem dX0_leastPart_1 : decode cX0_leastPart 1 = .ok (.istore_n 2, 1) := by decide +kernel
theorem dX0_leastPart_2 : decode cX0_leastPart 2 = .ok (.iconst 0, 1) := by decide +kernel
theorem dX0_leastPart_3 : decode cX0_leastPart 3 = .ok (.istore_n 3, 1) := by decide +kernel
theorem dX0_leastPart_4 : decode cX0_leastPart 4 = .ok (.iload_n 2, 1) := by decide +kernel
theorem dX0_leastPart_5 : decode cX0_leastPart 5 = .ok (.ifCond .le 44, 3) := by decide +kernel
theorem dX0_leastPart_8 : decode cX0_leastPart 8 = .ok (.iconst 1, 1) := by decide +kernel
theorem dX0_leastPart_9 : decode cX0_leastPart 9 = .ok (.istore 4, 2) := by decide +kernel
theorem dX0_leastPart_11 : decode cX0_leastPart 11 = .ok (.iconst 2, 1) := by decide +kernel
theorem dX0_leastPart_12 : decode cX0_leastPart 12 = .ok (.istore 5, 2) := by decide +kernel
theorem dX0_leastPart_14 : decode cX0_leastPart 14 = .ok (.iload 5, 2) := by decide +kernel
theorem dX0_leastPart_16 : decode cX0_leastPart 16 = .ok (.iload_n 2, 1) := by decide +kernel
theorem dX0_leastPart_17 : decode cX0_leastPart 17 = .ok (.if_icmp .gt 21, 3) := by decide +kernel
theorem dX0_leastPart_20 : decode cX0_leastPart 20 = .ok (.iload 4, 2) := by decide +kernel
theorem dX0_leastPart_22 : decode cX0_leastPart 22 = .ok (.iload 5, 2) := by decide +kernel
theorem dX0_leastPart_24 : decode cX0_leastPart 24 = .ok (.iadd, 1) := by decide +kernel
theorem dX0_leastPart_25 : decode cX0_leastPart 25 = .ok (.istore 6, 2) := by decide +kernel
theorem dX0_leastPart_27 : decode cX0_leastPart 27 = .ok (.iload 5, 2) := by decide +kernel
theorem dX0_leastPart_29 : decode cX0_leastPart 29 = .ok (.istore 4, 2) := by decide +kernel
theorem dX0_leastPart_31 : decode cX0_leastPart 31 = .ok (.iload 6, 2) := by decide +kernel
theorem dX0_leastPart_33 : decode cX0_leastPart 33 = .ok (.istore 5, 2) := by decide +kernel
theorem dX0_leastPart_35 : decode cX0_leastPart 35 = .ok (.goto (-21), 3) := by decide +kernel
theorem dX0_leastPart_38 : decode cX0_leastPart 38 = .ok (.iload 4, 2) := by decide +kernel
theorem dX0_leastPart_40 : decode cX0_leastPart 40 = .ok (.istore_n 3, 1) := by decide +kernel
theorem dX0_leastPart_41 : decode cX0_leastPart 41 = .ok (.iload_n 2, 1) := by decide +kernel
theorem dX0_leastPart_42 : decode cX0_leastPart 42 = .ok (.iload 4, 2) := by decide +kernel
theorem dX0_leastPart_44 : decode cX0_leastPart 44 = .ok (.isub, 1) := by decide +kernel
theorem dX0_leastPart_45 : decode cX0_leastPart 45 = .ok (.istore_n 2, 1) := by decide +kernel
theorem dX0_leastPart_46 : decode cX0_leastPart 46 = .ok (.goto (-42), 3) := by decide +kernel
theorem dX0_leastPart_49 : decode cX0_leastPart 49 = .ok (.iload_n 3, 1) := by decide +kernel
theorem dX0_leastPart_50 : decode cX0_leastPart 50 = .ok (.ireturn, 1) := by decide +kernel
abbrev cX0_isWon : ByteArray := prog_1_method_11_code
def yX0_isWon : MethodName := ⟨RX0, "isWon", "(IIII)Z"⟩
theorem dX0_isWon_0 : decode cX0_isWon 0 = .ok (.iload_n 1, 1) := by decide +kernel
theorem dX0_isWon_1 : decode cX0_isWon 1 = .ok (.ifCond .ne 18, 3) := by decide +kernel
theorem dX0_isWon_4 : decode cX0_isWon 4 = .ok (.iload_n 2, 1) := by decide +kernel
theorem dX0_isWon_5 : decode cX0_isWon 5 = .ok (.iload_n 3, 1) := by decide +kernel
theorem dX0_isWon_6 : decode cX0_isWon 6 = .ok (.ixor, 1) := by decide +kernel
theorem dX0_isWon_7 : decode cX0_isWon 7 = .ok (.iload 4, 2) := by decide +kernel
theorem dX0_isWon_9 : decode cX0_isWon 9 = .ok (.ixor, 1) := by decide +kernel
theorem dX0_isWon_10 : decode cX0_isWon 10 = .ok (.ifCond .eq 7, 3) := by decide +kernel
theorem dX0_isWon_13 : decode cX0_isWon 13 = .ok (.iconst 1, 1) := by decide +kernel
theorem dX0_isWon_14 : decode cX0_isWon 14 = .ok (.goto 4, 3) := by decide +kernel
theorem dX0_isWon_17 : decode cX0_isWon 17 = .ok (.iconst 0, 1) := by decide +kernel
theorem dX0_isWon_18 : decode cX0_isWon 18 = .ok (.ireturn, 1) := by decide +kernel
theorem dX0_isWon_19 : decode cX0_isWon 19 = .ok (.iload_n 1, 1) := by decide +kernel
theorem dX0_isWon_20 : decode cX0_isWon 20 = .ok (.iconst 1, 1) := by decide +kernel
theorem dX0_isWon_21 : decode cX0_isWon 21 = .ok (.if_icmp .ne 12, 3) := by decide +kernel
theorem dX0_isWon_24 : decode cX0_isWon 24 = .ok (.aload_n 0, 1) := by decide +kernel
theorem dX0_isWon_25 : decode cX0_isWon 25 = .ok (.iload_n 2, 1) := by decide +kernel
theorem dX0_isWon_26 : decode cX0_isWon 26 = .ok (.iload_n 3, 1) := by decide +kernel
theorem dX0_isWon_27 : decode cX0_isWon 27 = .ok (.iload 4, 2) := by decide +kernel
theorem dX0_isWon_29 : decode cX0_isWon 29 = .ok (.invokevirtual 28, 3) := by decide +kernel
theorem dX0_isWon_32 : decode cX0_isWon 32 = .ok (.ireturn, 1) := by decide +kernel
theorem dX0_isWon_33 : decode cX0_isWon 33 = .ok (.iload_n 1, 1) := by decide +kernel
theorem dX0_isWon_34 : decode cX0_isWon 34 = .ok (.iconst 2, 1) := by decide +kernel
theorem dX0_isWon_35 : decode cX0_isWon 35 = .ok (.if_icmp .ne 20, 3) := by decide +kernel
theorem dX0_isWon_38 : decode cX0_isWon 38 = .ok (.iload_n 2, 1) := by decide +kernel
theorem dX0_isWon_39 : decode cX0_isWon 39 = .ok (.iload_n 3, 1) := by decide +kernel
theorem dX0_isWon_40 : decode cX0_isWon 40 = .ok (.if_icmp .ne 9, 3) := by decide +kernel
theorem dX0_isWon_43 : decode cX0_isWon 43 = .ok (.iload_n 3, 1) := by decide +kernel
theorem dX0_isWon_44 : decode cX0_isWon 44 = .ok (.iload 4, 2) := by decide +kernel
theorem dX0_isWon_46 : decode cX0_isWon 46 = .ok (.if_icmp .eq 7, 3) := by decide +kernel
theorem dX0_isWon_49 : decode cX0_isWon 49 = .ok (.iconst 1, 1) := by decide +kernel
theorem dX0_isWon_50 : decode cX0_isWon 50 = .ok (.goto 4, 3) := by decide +kernel
theorem dX0_isWon_53 : decode cX0_isWon 53 = .ok (.iconst 0, 1) := by decide +kernel
theorem dX0_isWon_54 : decode cX0_isWon 54 = .ok (.ireturn, 1) := by decide +kernel
theorem dX0_isWon_55 : decode cX0_isWon 55 = .ok (.iload_n 1, 1) := by decide +kernel
theorem dX0_isWon_56 : decode cX0_isWon 56 = .ok (.iconst 3, 1) := by decide +kernel
theorem dX0_isWon_57 : decode cX0_isWon 57 = .ok (.if_icmp .ne 15, 3) := by decide +kernel
theorem dX0_isWon_60 : decode cX0_isWon 60 = .ok (.iload_n 2, 1) := by decide +kernel
theorem dX0_isWon_61 : decode cX0_isWon 61 = .ok (.iload 4, 2) := by decide +kernel
theorem dX0_isWon_63 : decode cX0_isWon 63 = .ok (.if_icmp .eq 7, 3) := by decide +kernel
theorem dX0_isWon_66 : decode cX0_isWon 66 = .ok (.iconst 1, 1) := by decide +kernel
theorem dX0_isWon_67 : decode cX0_isWon 67 = .ok (.goto 4, 3) := by decide +kernel
theorem dX0_isWon_70 : decode cX0_isWon 70 = .ok (.iconst 0, 1) := by decide +kernel
theorem dX0_isWon_71 : decode cX0_isWon 71 = .ok (.ireturn, 1) := by decide +kernel
theorem dX0_isWon_72 : decode cX0_isWon 72 = .ok (.iload_n 1, 1) := by decide +kernel
theorem dX0_isWon_73 : decode cX0_isWon 73 = .ok (.iconst 4, 1) := by decide +kernel
theorem dX0_isWon_74 : decode cX0_isWon 74 = .ok (.if_icmp .ne 10, 3) := by decide +kernel
theorem dX0_isWon_77 : decode cX0_isWon 77 = .ok (.aload_n 0, 1) := by decide +kernel
theorem dX0_isWon_78 : decode cX0_isWon 78 = .ok (.iload_n 2, 1) := by decide +kernel
theorem dX0_isWon_79 : decode cX0_isWon 79 = .ok (.iload_n 3, 1) := by decide +kernel
theorem dX0_isWon_80 : decode cX0_isWon 80 = .ok (.invokevirtual 32, 3) := by decide +kernel
theorem dX0_isWon_83 : decode cX0_isWon 83 = .ok (.ireturn, 1) := by decide +kernel
theorem dX0_isWon_84 : decode cX0_isWon 84 = .ok (.iload_n 1, 1) := by decide +kernel
theorem dX0_isWon_85 : decode cX0_isWon 85 = .ok (.iconst 5, 1) := by decide +kernel
theorem dX0_isWon_86 : decode cX0_isWon 86 = .ok (.if_icmp .ne 10, 3) := by decide +kernel
theorem dX0_isWon_89 : decode cX0_isWon 89 = .ok (.aload_n 0, 1) := by decide +kernel
theorem dX0_isWon_90 : decode cX0_isWon 90 = .ok (.iload_n 2, 1) := by decide +kernel
theorem dX0_isWon_91 : decode cX0_isWon 91 = .ok (.iload_n 3, 1) := by decide +kernel
theorem dX0_isWon_92 : decode cX0_isWon 92 = .ok (.invokevirtual 36, 3) := by decide +kernel
theorem dX0_isWon_95 : decode cX0_isWon 95 = .ok (.ireturn, 1) := by decide +kernel
theorem dX0_isWon_96 : decode cX0_isWon 96 = .ok (.iload_n 2, 1) := by decide +kernel
theorem dX0_isWon_97 : decode cX0_isWon 97 = .ok (.iload_n 3, 1) := by decide +kernel
theorem dX0_isWon_98 : decode cX0_isWon 98 = .ok (.ixor, 1) := by decide +kernel
theorem dX0_isWon_99 : decode cX0_isWon 99 = .ok (.iload 4, 2) := by decide +kernel
theorem dX0_isWon_101 : decode cX0_isWon 101 = .ok (.ixor, 1) := by decide +kernel
theorem dX0_isWon_102 : decode cX0_isWon 102 = .ok (.iconst 3, 1) := by decide +kernel
theorem dX0_isWon_103 : decode cX0_isWon 103 = .ok (.iand, 1) := by decide +kernel
theorem dX0_isWon_104 : decode cX0_isWon 104 = .ok (.ifCond .eq 7, 3) := by decide +kernel
theorem dX0_isWon_107 : decode cX0_isWon 107 = .ok (.iconst 1, 1) := by decide +kernel
theorem dX0_isWon_108 : decode cX0_isWon 108 = .ok (.goto 4, 3) := by decide +kernel
theorem dX0_isWon_111 : decode cX0_isWon 111 = .ok (.iconst 0, 1) := by decide +kernel
theorem dX0_isWon_112 : decode cX0_isWon 112 = .ok (.ireturn, 1) := by decide +kernel
abbrev cX0_wonLast : ByteArray := prog_1_method_10_code
def yX0_wonLast : MethodName := ⟨RX0, "wonLast", "(III)Z"⟩
theorem dX0_wonLast_0 : decode cX0_wonLast 0 = .ok (.iload_n 1, 1) := by decide +kernel
theorem dX0_wonLast_1 : decode cX0_wonLast 1 = .ok (.iconst 2, 1) := by decide +kernel
theorem dX0_wonLast_2 : decode cX0_wonLast 2 = .ok (.if_icmp .ge 17, 3) := by decide +kernel
theorem dX0_wonLast_5 : decode cX0_wonLast 5 = .ok (.iload_n 2, 1) := by decide +kernel
theorem dX0_wonLast_6 : decode cX0_wonLast 6 = .ok (.iconst 2, 1) := by decide +kernel
theorem dX0_wonLast_7 : decode cX0_wonLast 7 = .ok (.if_icmp .ge 12, 3) := by decide +kernel
theorem dX0_wonLast_10 : decode cX0_wonLast 10 = .ok (.iload_n 3, 1) := by decide +kernel
theorem dX0_wonLast_11 : decode cX0_wonLast 11 = .ok (.iconst 2, 1) := by decide +kernel
theorem dX0_wonLast_12 : decode cX0_wonLast 12 = .ok (.if_icmp .ge 7, 3) := by decide +kernel
theorem dX0_wonLast_15 : decode cX0_wonLast 15 = .ok (.iconst 1, 1) := by decide +kernel
theorem dX0_wonLast_16 : decode cX0_wonLast 16 = .ok (.goto 4, 3) := by decide +kernel
theorem dX0_wonLast_19 : decode cX0_wonLast 19 = .ok (.iconst 0, 1) := by decide +kernel
theorem dX0_wonLast_20 : decode cX0_wonLast 20 = .ok (.istore 4, 2) := by decide +kernel
theorem dX0_wonLast_22 : decode cX0_wonLast 22 = .ok (.iload 4, 2) := by decide +kernel
theorem dX0_wonLast_24 : decode cX0_wonLast 24 = .ok (.iload_n 1, 1) := by decide +kernel
theorem dX0_wonLast_25 : decode cX0_wonLast 25 = .ok (.iload_n 2, 1) := by decide +kernel
theorem dX0_wonLast_26 : decode cX0_wonLast 26 = .ok (.ixor, 1) := by decide +kernel
theorem dX0_wonLast_27 : decode cX0_wonLast 27 = .ok (.iload_n 3, 1) := by decide +kernel
theorem dX0_wonLast_28 : decode cX0_wonLast 28 = .ok (.ixor, 1) := by decide +kernel
theorem dX0_wonLast_29 : decode cX0_wonLast 29 = .ok (.ifCond .ne 7, 3) := by decide +kernel
theorem dX0_wonLast_32 : decode cX0_wonLast 32 = .ok (.iconst 1, 1) := by decide +kernel
theorem dX0_wonLast_33 : decode cX0_wonLast 33 = .ok (.goto 4, 3) := by decide +kernel
theorem dX0_wonLast_36 : decode cX0_wonLast 36 = .ok (.iconst 0, 1) := by decide +kernel
theorem dX0_wonLast_37 : decode cX0_wonLast 37 = .ok (.if_icmp .ne 7, 3) := by decide +kernel
theorem dX0_wonLast_40 : decode cX0_wonLast 40 = .ok (.iconst 1, 1) := by decide +kernel
theorem dX0_wonLast_41 : decode cX0_wonLast 41 = .ok (.goto 4, 3) := by decide +kernel
theorem dX0_wonLast_44 : decode cX0_wonLast 44 = .ok (.iconst 0, 1) := by decide +kernel
theorem dX0_wonLast_45 : decode cX0_wonLast 45 = .ok (.ireturn, 1) := by decide +kernel
abbrev cX0_wonGolden : ByteArray := prog_1_method_7_code
def yX0_wonGolden : MethodName := ⟨RX0, "wonGolden", "(II)Z"⟩
theorem dX0_wonGolden_0 : decode cX0_wonGolden 0 = .ok (.iload_n 1, 1) := by decide +kernel
theorem dX0_wonGolden_1 : decode cX0_wonGolden 1 = .ok (.iload_n 2, 1) := by decide +kernel
theorem dX0_wonGolden_2 : decode cX0_wonGolden 2 = .ok (.if_icmp .ge 7, 3) := by decide +kernel
theorem dX0_wonGolden_5 : decode cX0_wonGolden 5 = .ok (.iload_n 1, 1) := by decide +kernel
theorem dX0_wonGolden_6 : decode cX0_wonGolden 6 = .ok (.goto 4, 3) := by decide +kernel
theorem dX0_wonGolden_9 : decode cX0_wonGolden 9 = .ok (.iload_n 2, 1) := by decide +kernel
theorem dX0_wonGolden_10 : decode cX0_wonGolden 10 = .ok (.istore_n 3, 1) := by decide +kernel
theorem dX0_wonGolden_11 : decode cX0_wonGolden 11 = .ok (.iload_n 1, 1) := by decide +kernel
theorem dX0_wonGolden_12 : decode cX0_wonGolden 12 = .ok (.iload_n 2, 1) := by decide +kernel
theorem dX0_wonGolden_13 : decode cX0_wonGolden 13 = .ok (.if_icmp .ge 9, 3) := by decide +kernel
theorem dX0_wonGolden_16 : decode cX0_wonGolden 16 = .ok (.iload_n 2, 1) := by decide +kernel
theorem dX0_wonGolden_17 : decode cX0_wonGolden 17 = .ok (.iload_n 1, 1) := by decide +kernel
theorem dX0_wonGolden_18 : decode cX0_wonGolden 18 = .ok (.isub, 1) := by decide +kernel
theorem dX0_wonGolden_19 : decode cX0_wonGolden 19 = .ok (.goto 6, 3) := by decide +kernel
theorem dX0_wonGolden_22 : decode cX0_wonGolden 22 = .ok (.iload_n 1, 1) := by decide +kernel
theorem dX0_wonGolden_23 : decode cX0_wonGolden 23 = .ok (.iload_n 2, 1) := by decide +kernel
theorem dX0_wonGolden_24 : decode cX0_wonGolden 24 = .ok (.isub, 1) := by decide +kernel
theorem dX0_wonGolden_25 : decode cX0_wonGolden 25 = .ok (.istore 4, 2) := by decide +kernel
theorem dX0_wonGolden_27 : decode cX0_wonGolden 27 = .ok (.iload_n 3, 1) := by decide +kernel
theorem dX0_wonGolden_28 : decode cX0_wonGolden 28 = .ok (.iload 4, 2) := by decide +kernel
theorem dX0_wonGolden_30 : decode cX0_wonGolden 30 = .ok (.aload_n 0, 1) := by decide +kernel
theorem dX0_wonGolden_31 : decode cX0_wonGolden 31 = .ok (.iconst 5, 1) := by decide +kernel
theorem dX0_wonGolden_32 : decode cX0_wonGolden 32 = .ok (.iload 4, 2) := by decide +kernel
theorem dX0_wonGolden_34 : decode cX0_wonGolden 34 = .ok (.imul, 1) := by decide +kernel
theorem dX0_wonGolden_35 : decode cX0_wonGolden 35 = .ok (.iload 4, 2) := by decide +kernel
theorem dX0_wonGolden_37 : decode cX0_wonGolden 37 = .ok (.imul, 1) := by decide +kernel
theorem dX0_wonGolden_38 : decode cX0_wonGolden 38 = .ok (.invokevirtual 24, 3) := by decide +kernel
theorem dX0_wonGolden_41 : decode cX0_wonGolden 41 = .ok (.iadd, 1) := by decide +kernel
theorem dX0_wonGolden_42 : decode cX0_wonGolden 42 = .ok (.iconst 2, 1) := by decide +kernel
theorem dX0_wonGolden_43 : decode cX0_wonGolden 43 = .ok (.idiv, 1) := by decide +kernel
theorem dX0_wonGolden_44 : decode cX0_wonGolden 44 = .ok (.if_icmp .eq 7, 3) := by decide +kernel
theorem dX0_wonGolden_47 : decode cX0_wonGolden 47 = .ok (.iconst 1, 1) := by decide +kernel
theorem dX0_wonGolden_48 : decode cX0_wonGolden 48 = .ok (.goto 4, 3) := by decide +kernel
theorem dX0_wonGolden_51 : decode cX0_wonGolden 51 = .ok (.iconst 0, 1) := by decide +kernel
theorem dX0_wonGolden_52 : decode cX0_wonGolden 52 = .ok (.ireturn, 1) := by decide +kernel
abbrev cX0_rootOf : ByteArray := prog_1_method_6_code
def yX0_rootOf : MethodName := ⟨RX0, "rootOf", "(I)I"⟩
theorem dX0_rootOf_0 : decode cX0_rootOf 0 = .ok (.iconst 0, 1) := by decide +kernel
theorem dX0_rootOf_1 : decode cX0_rootOf 1 = .ok (.istore_n 2, 1) := by decide +kernel
theorem dX0_rootOf_2 : decode cX0_rootOf 2 = .ok (.iload_n 2, 1) := by decide +kernel
theorem dX0_rootOf_3 : decode cX0_rootOf 3 = .ok (.iconst 1, 1) := by decide +kernel
theorem dX0_rootOf_4 : decode cX0_rootOf 4 = .ok (.iadd, 1) := by decide +kernel
theorem dX0_rootOf_5 : decode cX0_rootOf 5 = .ok (.iload_n 2, 1) := by decide +kernel
theorem dX0_rootOf_6 : decode cX0_rootOf 6 = .ok (.iconst 1, 1) := by decide +kernel
theorem dX0_rootOf_7 : decode cX0_rootOf 7 = .ok (.iadd, 1) := by decide +kernel
theorem dX0_rootOf_8 : decode cX0_rootOf 8 = .ok (.imul, 1) := by decide +kernel
theorem dX0_rootOf_9 : decode cX0_rootOf 9 = .ok (.iload_n 1, 1) := by decide +kernel
theorem dX0_rootOf_10 : decode cX0_rootOf 10 = .ok (.if_icmp .gt 9, 3) := by decide +kernel
theorem dX0_rootOf_13 : decode cX0_rootOf 13 = .ok (.iinc 2 1, 3) := by decide +kernel
theorem dX0_rootOf_16 : decode cX0_rootOf 16 = .ok (.goto (-14), 3) := by decide +kernel
theorem dX0_rootOf_19 : decode cX0_rootOf 19 = .ok (.iload_n 2, 1) := by decide +kernel
theorem dX0_rootOf_20 : decode cX0_rootOf 20 = .ok (.ireturn, 1) := by decide +kernel
end
section
set_option maxRecDepth 100000
abbrev cX0_wonRatio : ByteArray := prog_1_method_8_code
def yX0_wonRatio : MethodName := ⟨RX0, "wonRatio", "(II)Z"⟩
theorem dX0_wonRatio_0 : decode cX0_wonRatio 0 = .ok (.iload_n 1, 1) := by decide +kernel
theorem dX0_wonRatio_1 : decode cX0_wonRatio 1 = .ok (.iload_n 2, 1) := by decide +kernel
theorem dX0_wonRatio_2 : decode cX0_wonRatio 2 = .ok (.if_icmp .ge 7, 3) := by decide +kernel
theorem dX0_wonRatio_5 : decode cX0_wonRatio 5 = .ok (.iload_n 1, 1) := by decide +kernel
theorem dX0_wonRatio_6 : decode cX0_wonRatio 6 = .ok (.goto 4, 3) := by decide +kernel
theorem dX0_wonRatio_9 : decode cX0_wonRatio 9 = .ok (.iload_n 2, 1) := by decide +kernel
theorem dX0_wonRatio_10 : decode cX0_wonRatio 10 = .ok (.istore_n 3, 1) := by decide +kernel
theorem dX0_wonRatio_11 : decode cX0_wonRatio 11 = .ok (.iload_n 1, 1) := by decide +kernel
theorem dX0_wonRatio_12 : decode cX0_wonRatio 12 = .ok (.iload_n 2, 1) := by decide +kernel
theorem dX0_wonRatio_13 : decode cX0_wonRatio 13 = .ok (.if_icmp .ge 7, 3) := by decide +kernel
theorem dX0_wonRatio_16 : decode cX0_wonRatio 16 = .ok (.iload_n 2, 1) := by decide +kernel
theorem dX0_wonRatio_17 : decode cX0_wonRatio 17 = .ok (.goto 4, 3) := by decide +kernel
theorem dX0_wonRatio_20 : decode cX0_wonRatio 20 = .ok (.iload_n 1, 1) := by decide +kernel
theorem dX0_wonRatio_21 : decode cX0_wonRatio 21 = .ok (.istore 4, 2) := by decide +kernel
theorem dX0_wonRatio_23 : decode cX0_wonRatio 23 = .ok (.iload_n 3, 1) := by decide +kernel
theorem dX0_wonRatio_24 : decode cX0_wonRatio 24 = .ok (.ifCond .le 29, 3) := by decide +kernel
theorem dX0_wonRatio_27 : decode cX0_wonRatio 27 = .ok (.iload_n 3, 1) := by decide +kernel
theorem dX0_wonRatio_28 : decode cX0_wonRatio 28 = .ok (.iload 4, 2) := by decide +kernel
theorem dX0_wonRatio_30 : decode cX0_wonRatio 30 = .ok (.if_icmp .eq 19, 3) := by decide +kernel
theorem dX0_wonRatio_33 : decode cX0_wonRatio 33 = .ok (.iload 4, 2) := by decide +kernel
theorem dX0_wonRatio_35 : decode cX0_wonRatio 35 = .ok (.iload 4, 2) := by decide +kernel
theorem dX0_wonRatio_37 : decode cX0_wonRatio 37 = .ok (.imul, 1) := by decide +kernel
theorem dX0_wonRatio_38 : decode cX0_wonRatio 38 = .ok (.iload 4, 2) := by decide +kernel
theorem dX0_wonRatio_40 : decode cX0_wonRatio 40 = .ok (.iload_n 3, 1) := by decide +kernel
theorem dX0_wonRatio_41 : decode cX0_wonRatio 41 = .ok (.imul, 1) := by decide +kernel
theorem dX0_wonRatio_42 : decode cX0_wonRatio 42 = .ok (.iload_n 3, 1) := by decide +kernel
theorem dX0_wonRatio_43 : decode cX0_wonRatio 43 = .ok (.iload_n 3, 1) := by decide +kernel
theorem dX0_wonRatio_44 : decode cX0_wonRatio 44 = .ok (.imul, 1) := by decide +kernel
theorem dX0_wonRatio_45 : decode cX0_wonRatio 45 = .ok (.iadd, 1) := by decide +kernel
theorem dX0_wonRatio_46 : decode cX0_wonRatio 46 = .ok (.if_icmp .le 7, 3) := by decide +kernel
theorem dX0_wonRatio_49 : decode cX0_wonRatio 49 = .ok (.iconst 1, 1) := by decide +kernel
theorem dX0_wonRatio_50 : decode cX0_wonRatio 50 = .ok (.goto 4, 3) := by decide +kernel
theorem dX0_wonRatio_53 : decode cX0_wonRatio 53 = .ok (.iconst 0, 1) := by decide +kernel
theorem dX0_wonRatio_54 : decode cX0_wonRatio 54 = .ok (.ireturn, 1) := by decide +kernel
abbrev cX0_moves : ByteArray := prog_1_method_24_code
def yX0_moves : MethodName := ⟨RX0, "moves", "(I)I"⟩
theorem dX0_moves_0 : decode cX0_moves 0 = .ok (.aload_n 0, 1) := by decide +kernel
theorem dX0_moves_1 : decode cX0_moves 1 = .ok (.iload_n 1, 1) := by decide +kernel
theorem dX0_moves_2 : decode cX0_moves 2 = .ok (.invokevirtual 42, 3) := by decide +kernel
theorem dX0_moves_5 : decode cX0_moves 5 = .ok (.ifCond .eq 5, 3) := by decide +kernel
theorem dX0_moves_8 : decode cX0_moves 8 = .ok (.iconst (-1), 1) := by decide +kernel
theorem dX0_moves_9 : decode cX0_moves 9 = .ok (.ireturn, 1) := by decide +kernel
theorem dX0_moves_10 : decode cX0_moves 10 = .ok (.aload_n 0, 1) := by decide +kernel
theorem dX0_moves_11 : decode cX0_moves 11 = .ok (.iload_n 1, 1) := by decide +kernel
theorem dX0_moves_12 : decode cX0_moves 12 = .ok (.iconst 1, 1) := by decide +kernel
theorem dX0_moves_13 : decode cX0_moves 13 = .ok (.invokevirtual 85, 3) := by decide +kernel
theorem dX0_moves_16 : decode cX0_moves 16 = .ok (.aload_n 0, 1) := by decide +kernel
theorem dX0_moves_17 : decode cX0_moves 17 = .ok (.getfield 16, 3) := by decide +kernel
theorem dX0_moves_20 : decode cX0_moves 20 = .ok (.ireturn, 1) := by decide +kernel
abbrev cX0_findMoves : ByteArray := prog_1_method_23_code
def yX0_findMoves : MethodName := ⟨RX0, "findMoves", "(IZ)V"⟩
theorem dX0_findMoves_0 : decode cX0_findMoves 0 = .ok (.aload_n 0, 1) := by decide +kernel
theorem dX0_findMoves_1 : decode cX0_findMoves 1 = .ok (.iconst 0, 1) := by decide +kernel
theorem dX0_findMoves_2 : decode cX0_findMoves 2 = .ok (.putfield 16, 3) := by decide +kernel
theorem dX0_findMoves_5 : decode cX0_findMoves 5 = .ok (.iload_n 1, 1) := by decide +kernel
theorem dX0_findMoves_6 : decode cX0_findMoves 6 = .ok (.iconst 3, 1) := by decide +kernel
theorem dX0_findMoves_7 : decode cX0_findMoves 7 = .ok (.if_icmp .ne 11, 3) := by decide +kernel
theorem dX0_findMoves_10 : decode cX0_findMoves 10 = .ok (.aload_n 0, 1) := by decide +kernel
theorem dX0_findMoves_11 : decode cX0_findMoves 11 = .ok (.iload_n 2, 1) := by decide +kernel
theorem dX0_findMoves_12 : decode cX0_findMoves 12 = .ok (.invokevirtual 64, 3) := by decide +kernel
theorem dX0_findMoves_15 : decode cX0_findMoves 15 = .ok (.goto 48, 3) := by decide +kernel
theorem dX0_findMoves_18 : decode cX0_findMoves 18 = .ok (.iload_n 1, 1) := by decide +kernel
theorem dX0_findMoves_19 : decode cX0_findMoves 19 = .ok (.iconst 5, 1) := by decide +kernel
theorem dX0_findMoves_20 : decode cX0_findMoves 20 = .ok (.if_icmp .ne 11, 3) := by decide +kernel
theorem dX0_findMoves_23 : decode cX0_findMoves 23 = .ok (.aload_n 0, 1) := by decide +kernel
theorem dX0_findMoves_24 : decode cX0_findMoves 24 = .ok (.iload_n 2, 1) := by decide +kernel
theorem dX0_findMoves_25 : decode cX0_findMoves 25 = .ok (.invokevirtual 68, 3) := by decide +kernel
theorem dX0_findMoves_28 : decode cX0_findMoves 28 = .ok (.goto 35, 3) := by decide +kernel
theorem dX0_findMoves_31 : decode cX0_findMoves 31 = .ok (.iload_n 1, 1) := by decide +kernel
theorem dX0_findMoves_32 : decode cX0_findMoves 32 = .ok (.bipush 6, 2) := by decide +kernel
theorem dX0_findMoves_34 : decode cX0_findMoves 34 = .ok (.if_icmp .ne 11, 3) := by decide +kernel
theorem dX0_findMoves_37 : decode cX0_findMoves 37 = .ok (.aload_n 0, 1) := by decide +kernel
theorem dX0_findMoves_38 : decode cX0_findMoves 38 = .ok (.iload_n 2, 1) := by decide +kernel
theorem dX0_findMoves_39 : decode cX0_findMoves 39 = .ok (.invokevirtual 71, 3) := by decide +kernel
theorem dX0_findMoves_42 : decode cX0_findMoves 42 = .ok (.goto 21, 3) := by decide +kernel
theorem dX0_findMoves_45 : decode cX0_findMoves 45 = .ok (.aload_n 0, 1) := by decide +kernel
theorem dX0_findMoves_46 : decode cX0_findMoves 46 = .ok (.iload_n 1, 1) := by decide +kernel
theorem dX0_findMoves_47 : decode cX0_findMoves 47 = .ok (.iload_n 1, 1) := by decide +kernel
theorem dX0_findMoves_48 : decode cX0_findMoves 48 = .ok (.bipush 7, 2) := by decide +kernel
theorem dX0_findMoves_50 : decode cX0_findMoves 50 = .ok (.if_icmp .ne 7, 3) := by decide +kernel
theorem dX0_findMoves_53 : decode cX0_findMoves 53 = .ok (.iconst 3, 1) := by decide +kernel
theorem dX0_findMoves_54 : decode cX0_findMoves 54 = .ok (.goto 5, 3) := by decide +kernel
theorem dX0_findMoves_57 : decode cX0_findMoves 57 = .ok (.bipush 15, 2) := by decide +kernel
theorem dX0_findMoves_59 : decode cX0_findMoves 59 = .ok (.iload_n 2, 1) := by decide +kernel
theorem dX0_findMoves_60 : decode cX0_findMoves 60 = .ok (.invokevirtual 74, 3) := by decide +kernel
theorem dX0_findMoves_63 : decode cX0_findMoves 63 = .ok (.iload_n 1, 1) := by decide +kernel
theorem dX0_findMoves_64 : decode cX0_findMoves 64 = .ok (.iconst 2, 1) := by decide +kernel
theorem dX0_findMoves_65 : decode cX0_findMoves 65 = .ok (.if_icmp .ne 21, 3) := by decide +kernel
theorem dX0_findMoves_68 : decode cX0_findMoves 68 = .ok (.aload_n 0, 1) := by decide +kernel
theorem dX0_findMoves_69 : decode cX0_findMoves 69 = .ok (.iconst 0, 1) := by decide +kernel
theorem dX0_findMoves_70 : decode cX0_findMoves 70 = .ok (.iload_n 2, 1) := by decide +kernel
theorem dX0_findMoves_71 : decode cX0_findMoves 71 = .ok (.invokevirtual 78, 3) := by decide +kernel
theorem dX0_findMoves_74 : decode cX0_findMoves 74 = .ok (.aload_n 0, 1) := by decide +kernel
theorem dX0_findMoves_75 : decode cX0_findMoves 75 = .ok (.iconst 1, 1) := by decide +kernel
theorem dX0_findMoves_76 : decode cX0_findMoves 76 = .ok (.iload_n 2, 1) := by decide +kernel
theorem dX0_findMoves_77 : decode cX0_findMoves 77 = .ok (.invokevirtual 78, 3) := by decide +kernel
theorem dX0_findMoves_80 : decode cX0_findMoves 80 = .ok (.aload_n 0, 1) := by decide +kernel
theorem dX0_findMoves_81 : decode cX0_findMoves 81 = .ok (.iconst 2, 1) := by decide +kernel
theorem dX0_findMoves_82 : decode cX0_findMoves 82 = .ok (.iload_n 2, 1) := by decide +kernel
theorem dX0_findMoves_83 : decode cX0_findMoves 83 = .ok (.invokevirtual 78, 3) := by decide +kernel
theorem dX0_findMoves_86 : decode cX0_findMoves 86 = .ok (.iload_n 1, 1) := by decide +kernel
theorem dX0_findMoves_87 : decode cX0_findMoves 87 = .ok (.iconst 4, 1) := by decide +kernel
theorem dX0_findMoves_88 : decode cX0_findMoves 88 = .ok (.if_icmp .ne 8, 3) := by decide +kernel
theorem dX0_findMoves_91 : decode cX0_findMoves 91 = .ok (.aload_n 0, 1) := by decide +kernel
theorem dX0_findMoves_92 : decode cX0_findMoves 92 = .ok (.iload_n 2, 1) := by decide +kernel
theorem dX0_findMoves_93 : decode cX0_findMoves 93 = .ok (.invokevirtual 82, 3) := by decide +kernel
theorem dX0_findMoves_96 : decode cX0_findMoves 96 = .ok (.return_, 1) := by decide +kernel
abbrev cX0_downStairs : ByteArray := prog_1_method_19_code
def yX0_downStairs : MethodName := ⟨RX0, "downStairs", "(Z)V"⟩
theorem dX0_downStairs_0 : decode cX0_downStairs 0 = .ok (.iconst 1, 1) := by decide +kernel
theorem dX0_downStairs_1 : decode cX0_downStairs 1 = .ok (.istore_n 2, 1) := by decide +kernel
theorem dX0_downStairs_2 : decode cX0_downStairs 2 = .ok (.iload_n 2, 1) := by decide +kernel
theorem dX0_downStairs_3 : decode cX0_downStairs 3 = .ok (.bipush 15, 2) := by decide +kernel
theorem dX0_downStairs_5 : decode cX0_downStairs 5 = .ok (.if_icmp .gt 121, 3) := by decide +kernel
theorem dX0_downStairs_8 : decode cX0_downStairs 8 = .ok (.iload_n 2, 1) := by decide +kernel
theorem dX0_downStairs_9 : decode cX0_downStairs 9 = .ok (.aload_n 0, 1) := by decide +kernel
theorem dX0_downStairs_10 : decode cX0_downStairs 10 = .ok (.getfield 7, 3) := by decide +kernel
theorem dX0_downStairs_13 : decode cX0_downStairs 13 = .ok (.iconst 0, 1) := by decide +kernel
theorem dX0_downStairs_14 : decode cX0_downStairs 14 = .ok (.iaload, 1) := by decide +kernel
theorem dX0_downStairs_15 : decode cX0_downStairs 15 = .ok (.if_icmp .gt 29, 3) := by decide +kernel
theorem dX0_downStairs_18 : decode cX0_downStairs 18 = .ok (.aload_n 0, 1) := by decide +kernel
theorem dX0_downStairs_19 : decode cX0_downStairs 19 = .ok (.iconst 3, 1) := by decide +kernel
theorem dX0_downStairs_20 : decode cX0_downStairs 20 = .ok (.aload_n 0, 1) := by decide +kernel
theorem dX0_downStairs_21 : decode cX0_downStairs 21 = .ok (.getfield 7, 3) := by decide +kernel
theorem dX0_downStairs_24 : decode cX0_downStairs 24 = .ok (.iconst 0, 1) := by decide +kernel
theorem dX0_downStairs_25 : decode cX0_downStairs 25 = .ok (.iaload, 1) := by decide +kernel
theorem dX0_downStairs_26 : decode cX0_downStairs 26 = .ok (.iload_n 2, 1) := by decide +kernel
theorem dX0_downStairs_27 : decode cX0_downStairs 27 = .ok (.isub, 1) := by decide +kernel
theorem dX0_downStairs_28 : decode cX0_downStairs 28 = .ok (.aload_n 0, 1) := by decide +kernel
theorem dX0_downStairs_29 : decode cX0_downStairs 29 = .ok (.getfield 7, 3) := by decide +kernel
theorem dX0_downStairs_32 : decode cX0_downStairs 32 = .ok (.iconst 1, 1) := by decide +kernel
theorem dX0_downStairs_33 : decode cX0_downStairs 33 = .ok (.iaload, 1) := by decide +kernel
theorem dX0_downStairs_34 : decode cX0_downStairs 34 = .ok (.aload_n 0, 1) := by decide +kernel
theorem dX0_downStairs_35 : decode cX0_downStairs 35 = .ok (.getfield 7, 3) := by decide +kernel
theorem dX0_downStairs_38 : decode cX0_downStairs 38 = .ok (.iconst 2, 1) := by decide +kernel
theorem dX0_downStairs_39 : decode cX0_downStairs 39 = .ok (.iaload, 1) := by decide +kernel
theorem dX0_downStairs_40 : decode cX0_downStairs 40 = .ok (.iload_n 1, 1) := by decide +kernel
theorem dX0_downStairs_41 : decode cX0_downStairs 41 = .ok (.invokevirtual 60, 3) := by decide +kernel
theorem dX0_downStairs_44 : decode cX0_downStairs 44 = .ok (.iload_n 2, 1) := by decide +kernel
theorem dX0_downStairs_45 : decode cX0_downStairs 45 = .ok (.aload_n 0, 1) := by decide +kernel
theorem dX0_downStairs_46 : decode cX0_downStairs 46 = .ok (.getfield 7, 3) := by decide +kernel
theorem dX0_downStairs_49 : decode cX0_downStairs 49 = .ok (.iconst 1, 1) := by decide +kernel
theorem dX0_downStairs_50 : decode cX0_downStairs 50 = .ok (.iaload, 1) := by decide +kernel
theorem dX0_downStairs_51 : decode cX0_downStairs 51 = .ok (.if_icmp .gt 31, 3) := by decide +kernel
theorem dX0_downStairs_54 : decode cX0_downStairs 54 = .ok (.aload_n 0, 1) := by decide +kernel
theorem dX0_downStairs_55 : decode cX0_downStairs 55 = .ok (.iconst 3, 1) := by decide +kernel
theorem dX0_downStairs_56 : decode cX0_downStairs 56 = .ok (.aload_n 0, 1) := by decide +kernel
theorem dX0_downStairs_57 : decode cX0_downStairs 57 = .ok (.getfield 7, 3) := by decide +kernel
theorem dX0_downStairs_60 : decode cX0_downStairs 60 = .ok (.iconst 0, 1) := by decide +kernel
theorem dX0_downStairs_61 : decode cX0_downStairs 61 = .ok (.iaload, 1) := by decide +kernel
theorem dX0_downStairs_62 : decode cX0_downStairs 62 = .ok (.iload_n 2, 1) := by decide +kernel
theorem dX0_downStairs_63 : decode cX0_downStairs 63 = .ok (.iadd, 1) := by decide +kernel
theorem dX0_downStairs_64 : decode cX0_downStairs 64 = .ok (.aload_n 0, 1) := by decide +kernel
theorem dX0_downStairs_65 : decode cX0_downStairs 65 = .ok (.getfield 7, 3) := by decide +kernel
theorem dX0_downStairs_68 : decode cX0_downStairs 68 = .ok (.iconst 1, 1) := by decide +kernel
theorem dX0_downStairs_69 : decode cX0_downStairs 69 = .ok (.iaload, 1) := by decide +kernel
theorem dX0_downStairs_70 : decode cX0_downStairs 70 = .ok (.iload_n 2, 1) := by decide +kernel
theorem dX0_downStairs_71 : decode cX0_downStairs 71 = .ok (.isub, 1) := by decide +kernel
theorem dX0_downStairs_72 : decode cX0_downStairs 72 = .ok (.aload_n 0, 1) := by decide +kernel
theorem dX0_downStairs_73 : decode cX0_downStairs 73 = .ok (.getfield 7, 3) := by decide +kernel
theorem dX0_downStairs_76 : decode cX0_downStairs 76 = .ok (.iconst 2, 1) := by decide +kernel
theorem dX0_downStairs_77 : decode cX0_downStairs 77 = .ok (.iaload, 1) := by decide +kernel
theorem dX0_downStairs_78 : decode cX0_downStairs 78 = .ok (.iload_n 1, 1) := by decide +kernel
theorem dX0_downStairs_79 : decode cX0_downStairs 79 = .ok (.invokevirtual 60, 3) := by decide +kernel
theorem dX0_downStairs_82 : decode cX0_downStairs 82 = .ok (.iload_n 2, 1) := by decide +kernel
theorem dX0_downStairs_83 : decode cX0_downStairs 83 = .ok (.aload_n 0, 1) := by decide +kernel
theorem dX0_downStairs_84 : decode cX0_downStairs 84 = .ok (.getfield 7, 3) := by decide +kernel
theorem dX0_downStairs_87 : decode cX0_downStairs 87 = .ok (.iconst 2, 1) := by decide +kernel
theorem dX0_downStairs_88 : decode cX0_downStairs 88 = .ok (.iaload, 1) := by decide +kernel
theorem dX0_downStairs_89 : decode cX0_downStairs 89 = .ok (.if_icmp .gt 31, 3) := by decide +kernel
theorem dX0_downStairs_92 : decode cX0_downStairs 92 = .ok (.aload_n 0, 1) := by decide +kernel
theorem dX0_downStairs_93 : decode cX0_downStairs 93 = .ok (.iconst 3, 1) := by decide +kernel
theorem dX0_downStairs_94 : decode cX0_downStairs 94 = .ok (.aload_n 0, 1) := by decide +kernel
theorem dX0_downStairs_95 : decode cX0_downStairs 95 = .ok (.getfield 7, 3) := by decide +kernel
theorem dX0_downStairs_98 : decode cX0_downStairs 98 = .ok (.iconst 0, 1) := by decide +kernel
theorem dX0_downStairs_99 : decode cX0_downStairs 99 = .ok (.iaload, 1) := by decide +kernel
theorem dX0_downStairs_100 : decode cX0_downStairs 100 = .ok (.aload_n 0, 1) := by decide +kernel
theorem dX0_downStairs_101 : decode cX0_downStairs 101 = .ok (.getfield 7, 3) := by decide +kernel
theorem dX0_downStairs_104 : decode cX0_downStairs 104 = .ok (.iconst 1, 1) := by decide +kernel
theorem dX0_downStairs_105 : decode cX0_downStairs 105 = .ok (.iaload, 1) := by decide +kernel
theorem dX0_downStairs_106 : decode cX0_downStairs 106 = .ok (.iload_n 2, 1) := by decide +kernel
theorem dX0_downStairs_107 : decode cX0_downStairs 107 = .ok (.iadd, 1) := by decide +kernel
theorem dX0_downStairs_108 : decode cX0_downStairs 108 = .ok (.aload_n 0, 1) := by decide +kernel
theorem dX0_downStairs_109 : decode cX0_downStairs 109 = .ok (.getfield 7, 3) := by decide +kernel
theorem dX0_downStairs_112 : decode cX0_downStairs 112 = .ok (.iconst 2, 1) := by decide +kernel
theorem dX0_downStairs_113 : decode cX0_downStairs 113 = .ok (.iaload, 1) := by decide +kernel
theorem dX0_downStairs_114 : decode cX0_downStairs 114 = .ok (.iload_n 2, 1) := by decide +kernel
theorem dX0_downStairs_115 : decode cX0_downStairs 115 = .ok (.isub, 1) := by decide +kernel
theorem dX0_downStairs_116 : decode cX0_downStairs 116 = .ok (.iload_n 1, 1) := by decide +kernel
theorem dX0_downStairs_117 : decode cX0_downStairs 117 = .ok (.invokevirtual 60, 3) := by decide +kernel
theorem dX0_downStairs_120 : decode cX0_downStairs 120 = .ok (.iinc 2 1, 3) := by decide +kernel
theorem dX0_downStairs_123 : decode cX0_downStairs 123 = .ok (.goto (-121), 3) := by decide +kernel
theorem dX0_downStairs_126 : decode cX0_downStairs 126 = .ok (.return_, 1) := by decide +kernel
abbrev cX0_consider : ByteArray := prog_1_method_16_code
def yX0_consider : MethodName := ⟨RX0, "consider", "(IIIIZ)V"⟩
theorem dX0_consider_0 : decode cX0_consider 0 = .ok (.iload 5, 2) := by decide +kernel
theorem dX0_consider_2 : decode cX0_consider 2 = .ok (.ifCond .ne 15, 3) := by decide +kernel
theorem dX0_consider_5 : decode cX0_consider 5 = .ok (.aload_n 0, 1) := by decide +kernel
theorem dX0_consider_6 : decode cX0_consider 6 = .ok (.iload_n 1, 1) := by decide +kernel
theorem dX0_consider_7 : decode cX0_consider 7 = .ok (.iload_n 2, 1) := by decide +kernel
theorem dX0_consider_8 : decode cX0_consider 8 = .ok (.iload_n 3, 1) := by decide +kernel
theorem dX0_consider_9 : decode cX0_consider 9 = .ok (.iload 4, 2) := by decide +kernel
theorem dX0_consider_11 : decode cX0_consider 11 = .ok (.invokevirtual 52, 3) := by decide +kernel
theorem dX0_consider_14 : decode cX0_consider 14 = .ok (.ifCond .ne 20, 3) := by decide +kernel
theorem dX0_consider_17 : decode cX0_consider 17 = .ok (.aload_n 0, 1) := by decide +kernel
theorem dX0_consider_18 : decode cX0_consider 18 = .ok (.iload_n 2, 1) := by decide +kernel
theorem dX0_consider_19 : decode cX0_consider 19 = .ok (.bipush 32, 2) := by decide +kernel
theorem dX0_consider_21 : decode cX0_consider 21 = .ok (.iload_n 3, 1) := by decide +kernel
theorem dX0_consider_22 : decode cX0_consider 22 = .ok (.imul, 1) := by decide +kernel
theorem dX0_consider_23 : decode cX0_consider 23 = .ok (.iadd, 1) := by decide +kernel
theorem dX0_consider_24 : decode cX0_consider 24 = .ok (.sipush 1024, 3) := by decide +kernel
theorem dX0_consider_27 : decode cX0_consider 27 = .ok (.iload 4, 2) := by decide +kernel
theorem dX0_consider_29 : decode cX0_consider 29 = .ok (.imul, 1) := by decide +kernel
theorem dX0_consider_30 : decode cX0_consider 30 = .ok (.iadd, 1) := by decide +kernel
theorem dX0_consider_31 : decode cX0_consider 31 = .ok (.invokevirtual 56, 3) := by decide +kernel
theorem dX0_consider_34 : decode cX0_consider 34 = .ok (.return_, 1) := by decide +kernel
abbrev cX0_keep : ByteArray := prog_1_method_15_code
def yX0_keep : MethodName := ⟨RX0, "keep", "(I)V"⟩
theorem dX0_keep_0 : decode cX0_keep 0 = .ok (.aload_n 0, 1) := by decide +kernel
theorem dX0_keep_1 : decode cX0_keep 1 = .ok (.getfield 16, 3) := by decide +kernel
theorem dX0_keep_4 : decode cX0_keep 4 = .ok (.istore_n 2, 1) := by decide +kernel
theorem dX0_keep_5 : decode cX0_keep 5 = .ok (.iload_n 2, 1) := by decide +kernel
theorem dX0_keep_6 : decode cX0_keep 6 = .ok (.ifCond .le 21, 3) := by decide +kernel
theorem dX0_keep_9 : decode cX0_keep 9 = .ok (.aload_n 0, 1) := by decide +kernel
theorem dX0_keep_10 : decode cX0_keep 10 = .ok (.getfield 13, 3) := by decide +kernel
theorem dX0_keep_13 : decode cX0_keep 13 = .ok (.iload_n 2, 1) := by decide +kernel
theorem dX0_keep_14 : decode cX0_keep 14 = .ok (.iconst 1, 1) := by decide +kernel
theorem dX0_keep_15 : decode cX0_keep 15 = .ok (.isub, 1) := by decide +kernel
theorem dX0_keep_16 : decode cX0_keep 16 = .ok (.iaload, 1) := by decide +kernel
theorem dX0_keep_17 : decode cX0_keep 17 = .ok (.iload_n 1, 1) := by decide +kernel
theorem dX0_keep_18 : decode cX0_keep 18 = .ok (.if_icmp .le 9, 3) := by decide +kernel
theorem dX0_keep_21 : decode cX0_keep 21 = .ok (.iinc 2 (-1), 3) := by decide +kernel
theorem dX0_keep_24 : decode cX0_keep 24 = .ok (.goto (-19), 3) := by decide +kernel
theorem dX0_keep_27 : decode cX0_keep 27 = .ok (.iload_n 2, 1) := by decide +kernel
theorem dX0_keep_28 : decode cX0_keep 28 = .ok (.ifCond .le 15, 3) := by decide +kernel
theorem dX0_keep_31 : decode cX0_keep 31 = .ok (.aload_n 0, 1) := by decide +kernel
theorem dX0_keep_32 : decode cX0_keep 32 = .ok (.getfield 13, 3) := by decide +kernel
theorem dX0_keep_35 : decode cX0_keep 35 = .ok (.iload_n 2, 1) := by decide +kernel
theorem dX0_keep_36 : decode cX0_keep 36 = .ok (.iconst 1, 1) := by decide +kernel
theorem dX0_keep_37 : decode cX0_keep 37 = .ok (.isub, 1) := by decide +kernel
theorem dX0_keep_38 : decode cX0_keep 38 = .ok (.iaload, 1) := by decide +kernel
theorem dX0_keep_39 : decode cX0_keep 39 = .ok (.iload_n 1, 1) := by decide +kernel
theorem dX0_keep_40 : decode cX0_keep 40 = .ok (.if_icmp .eq 13, 3) := by decide +kernel
theorem dX0_keep_43 : decode cX0_keep 43 = .ok (.aload_n 0, 1) := by decide +kernel
theorem dX0_keep_44 : decode cX0_keep 44 = .ok (.getfield 16, 3) := by decide +kernel
theorem dX0_keep_47 : decode cX0_keep 47 = .ok (.sipush 800, 3) := by decide +kernel
theorem dX0_keep_50 : decode cX0_keep 50 = .ok (.if_icmp .ne 4, 3) := by decide +kernel
theorem dX0_keep_53 : decode cX0_keep 53 = .ok (.return_, 1) := by decide +kernel
theorem dX0_keep_54 : decode cX0_keep 54 = .ok (.aload_n 0, 1) := by decide +kernel
theorem dX0_keep_55 : decode cX0_keep 55 = .ok (.getfield 16, 3) := by decide +kernel
theorem dX0_keep_58 : decode cX0_keep 58 = .ok (.istore_n 3, 1) := by decide +kernel
theorem dX0_keep_59 : decode cX0_keep 59 = .ok (.iload_n 3, 1) := by decide +kernel
theorem dX0_keep_60 : decode cX0_keep 60 = .ok (.iload_n 2, 1) := by decide +kernel
theorem dX0_keep_61 : decode cX0_keep 61 = .ok (.if_icmp .le 23, 3) := by decide +kernel
theorem dX0_keep_64 : decode cX0_keep 64 = .ok (.aload_n 0, 1) := by decide +kernel
theorem dX0_keep_65 : decode cX0_keep 65 = .ok (.getfield 13, 3) := by decide +kernel
theorem dX0_keep_68 : decode cX0_keep 68 = .ok (.iload_n 3, 1) := by decide +kernel
theorem dX0_keep_69 : decode cX0_keep 69 = .ok (.aload_n 0, 1) := by decide +kernel
theorem dX0_keep_70 : decode cX0_keep 70 = .ok (.getfield 13, 3) := by decide +kernel
theorem dX0_keep_73 : decode cX0_keep 73 = .ok (.iload_n 3, 1) := by decide +kernel
theorem dX0_keep_74 : decode cX0_keep 74 = .ok (.iconst 1, 1) := by decide +kernel
theorem dX0_keep_75 : decode cX0_keep 75 = .ok (.isub, 1) := by decide +kernel
theorem dX0_keep_76 : decode cX0_keep 76 = .ok (.iaload, 1) := by decide +kernel
theorem dX0_keep_77 : decode cX0_keep 77 = .ok (.iastore, 1) := by decide +kernel
theorem dX0_keep_78 : decode cX0_keep 78 = .ok (.iinc 3 (-1), 3) := by decide +kernel
theorem dX0_keep_81 : decode cX0_keep 81 = .ok (.goto (-22), 3) := by decide +kernel
theorem dX0_keep_84 : decode cX0_keep 84 = .ok (.aload_n 0, 1) := by decide +kernel
theorem dX0_keep_85 : decode cX0_keep 85 = .ok (.getfield 13, 3) := by decide +kernel
theorem dX0_keep_88 : decode cX0_keep 88 = .ok (.iload_n 2, 1) := by decide +kernel
theorem dX0_keep_89 : decode cX0_keep 89 = .ok (.iload_n 1, 1) := by decide +kernel
theorem dX0_keep_90 : decode cX0_keep 90 = .ok (.iastore, 1) := by decide +kernel
theorem dX0_keep_91 : decode cX0_keep 91 = .ok (.aload_n 0, 1) := by decide +kernel
theorem dX0_keep_92 : decode cX0_keep 92 = .ok (.dup, 1) := by decide +kernel
theorem dX0_keep_93 : decode cX0_keep 93 = .ok (.getfield 16, 3) := by decide +kernel
theorem dX0_keep_96 : decode cX0_keep 96 = .ok (.iconst 1, 1) := by decide +kernel
theorem dX0_keep_97 : decode cX0_keep 97 = .ok (.iadd, 1) := by decide +kernel
theorem dX0_keep_98 : decode cX0_keep 98 = .ok (.putfield 16, 3) := by decide +kernel
theorem dX0_keep_101 : decode cX0_keep 101 = .ok (.return_, 1) := by decide +kernel
abbrev cX0_multiples : ByteArray := prog_1_method_21_code
def yX0_multiples : MethodName := ⟨RX0, "multiples", "(Z)V"⟩
theorem dX0_multiples_0 : decode cX0_multiples 0 = .ok (.aload_n 0, 1) := by decide +kernel
theorem dX0_multiples_1 : decode cX0_multiples 1 = .ok (.getfield 7, 3) := by decide +kernel
theorem dX0_multiples_4 : decode cX0_multiples 4 = .ok (.iconst 0, 1) := by decide +kernel
theorem dX0_multiples_5 : decode cX0_multiples 5 = .ok (.iaload, 1) := by decide +kernel
theorem dX0_multiples_6 : decode cX0_multiples 6 = .ok (.istore_n 2, 1) := by decide +kernel
theorem dX0_multiples_7 : decode cX0_multiples 7 = .ok (.aload_n 0, 1) := by decide +kernel
theorem dX0_multiples_8 : decode cX0_multiples 8 = .ok (.getfield 7, 3) := by decide +kernel
theorem dX0_multiples_11 : decode cX0_multiples 11 = .ok (.iconst 1, 1) := by decide +kernel
theorem dX0_multiples_12 : decode cX0_multiples 12 = .ok (.iaload, 1) := by decide +kernel
theorem dX0_multiples_13 : decode cX0_multiples 13 = .ok (.istore_n 3, 1) := by decide +kernel
theorem dX0_multiples_14 : decode cX0_multiples 14 = .ok (.iconst 1, 1) := by decide +kernel
theorem dX0_multiples_15 : decode cX0_multiples 15 = .ok (.istore 4, 2) := by decide +kernel
theorem dX0_multiples_17 : decode cX0_multiples 17 = .ok (.iload 4, 2) := by decide +kernel
theorem dX0_multiples_19 : decode cX0_multiples 19 = .ok (.bipush 15, 2) := by decide +kernel
theorem dX0_multiples_21 : decode cX0_multiples 21 = .ok (.if_icmp .gt 71, 3) := by decide +kernel
theorem dX0_multiples_24 : decode cX0_multiples 24 = .ok (.iload_n 2, 1) := by decide +kernel
theorem dX0_multiples_25 : decode cX0_multiples 25 = .ok (.ifCond .le 67, 3) := by decide +kernel
theorem dX0_multiples_28 : decode cX0_multiples 28 = .ok (.iload_n 3, 1) := by decide +kernel
theorem dX0_multiples_29 : decode cX0_multiples 29 = .ok (.ifCond .le 63, 3) := by decide +kernel
theorem dX0_multiples_32 : decode cX0_multiples 32 = .ok (.iload 4, 2) := by decide +kernel
theorem dX0_multiples_34 : decode cX0_multiples 34 = .ok (.iload_n 3, 1) := by decide +kernel
theorem dX0_multiples_35 : decode cX0_multiples 35 = .ok (.imul, 1) := by decide +kernel
theorem dX0_multiples_36 : decode cX0_multiples 36 = .ok (.iload_n 2, 1) := by decide +kernel
theorem dX0_multiples_37 : decode cX0_multiples 37 = .ok (.if_icmp .gt 22, 3) := by decide +kernel
theorem dX0_multiples_40 : decode cX0_multiples 40 = .ok (.aload_n 0, 1) := by decide +kernel
theorem dX0_multiples_41 : decode cX0_multiples 41 = .ok (.iconst 5, 1) := by decide +kernel
theorem dX0_multiples_42 : decode cX0_multiples 42 = .ok (.iload_n 2, 1) := by decide +kernel
theorem dX0_multiples_43 : decode cX0_multiples 43 = .ok (.iload 4, 2) := by decide +kernel
theorem dX0_multiples_45 : decode cX0_multiples 45 = .ok (.iload_n 3, 1) := by decide +kernel
theorem dX0_multiples_46 : decode cX0_multiples 46 = .ok (.imul, 1) := by decide +kernel
theorem dX0_multiples_47 : decode cX0_multiples 47 = .ok (.isub, 1) := by decide +kernel
theorem dX0_multiples_48 : decode cX0_multiples 48 = .ok (.iload_n 3, 1) := by decide +kernel
theorem dX0_multiples_49 : decode cX0_multiples 49 = .ok (.aload_n 0, 1) := by decide +kernel
theorem dX0_multiples_50 : decode cX0_multiples 50 = .ok (.getfield 7, 3) := by decide +kernel
theorem dX0_multiples_53 : decode cX0_multiples 53 = .ok (.iconst 2, 1) := by decide +kernel
theorem dX0_multiples_54 : decode cX0_multiples 54 = .ok (.iaload, 1) := by decide +kernel
theorem dX0_multiples_55 : decode cX0_multiples 55 = .ok (.iload_n 1, 1) := by decide +kernel
theorem dX0_multiples_56 : decode cX0_multiples 56 = .ok (.invokevirtual 60, 3) := by decide +kernel
theorem dX0_multiples_59 : decode cX0_multiples 59 = .ok (.iload 4, 2) := by decide +kernel
theorem dX0_multiples_61 : decode cX0_multiples 61 = .ok (.iload_n 2, 1) := by decide +kernel
theorem dX0_multiples_62 : decode cX0_multiples 62 = .ok (.imul, 1) := by decide +kernel
theorem dX0_multiples_63 : decode cX0_multiples 63 = .ok (.iload_n 3, 1) := by decide +kernel
theorem dX0_multiples_64 : decode cX0_multiples 64 = .ok (.if_icmp .gt 22, 3) := by decide +kernel
theorem dX0_multiples_67 : decode cX0_multiples 67 = .ok (.aload_n 0, 1) := by decide +kernel
theorem dX0_multiples_68 : decode cX0_multiples 68 = .ok (.iconst 5, 1) := by decide +kernel
theorem dX0_multiples_69 : decode cX0_multiples 69 = .ok (.iload_n 2, 1) := by decide +kernel
theorem dX0_multiples_70 : decode cX0_multiples 70 = .ok (.iload_n 3, 1) := by decide +kernel
theorem dX0_multiples_71 : decode cX0_multiples 71 = .ok (.iload 4, 2) := by decide +kernel
theorem dX0_multiples_73 : decode cX0_multiples 73 = .ok (.iload_n 2, 1) := by decide +kernel
theorem dX0_multiples_74 : decode cX0_multiples 74 = .ok (.imul, 1) := by decide +kernel
theorem dX0_multiples_75 : decode cX0_multiples 75 = .ok (.isub, 1) := by decide +kernel
theorem dX0_multiples_76 : decode cX0_multiples 76 = .ok (.aload_n 0, 1) := by decide +kernel
theorem dX0_multiples_77 : decode cX0_multiples 77 = .ok (.getfield 7, 3) := by decide +kernel
theorem dX0_multiples_80 : decode cX0_multiples 80 = .ok (.iconst 2, 1) := by decide +kernel
theorem dX0_multiples_81 : decode cX0_multiples 81 = .ok (.iaload, 1) := by decide +kernel
theorem dX0_multiples_82 : decode cX0_multiples 82 = .ok (.iload_n 1, 1) := by decide +kernel
theorem dX0_multiples_83 : decode cX0_multiples 83 = .ok (.invokevirtual 60, 3) := by decide +kernel
theorem dX0_multiples_86 : decode cX0_multiples 86 = .ok (.iinc 4 1, 3) := by decide +kernel
theorem dX0_multiples_89 : decode cX0_multiples 89 = .ok (.goto (-72), 3) := by decide +kernel
theorem dX0_multiples_92 : decode cX0_multiples 92 = .ok (.return_, 1) := by decide +kernel
end
section
set_option maxRecDepth 100000
abbrev cX0_fromSingle : ByteArray := prog_1_method_22_code
def yX0_fromSingle : MethodName := ⟨RX0, "fromSingle", "(Z)V"⟩
theorem dX0_fromSingle_0 : decode cX0_fromSingle 0 = .ok (.aload_n 0, 1) := by decide +kernel
theorem dX0_fromSingle_1 : decode cX0_fromSingle 1 = .ok (.invokevirtual 45, 3) := by decide +kernel
theorem dX0_fromSingle_4 : decode cX0_fromSingle 4 = .ok (.istore_n 2, 1) := by decide +kernel
theorem dX0_fromSingle_5 : decode cX0_fromSingle 5 = .ok (.iconst 1, 1) := by decide +kernel
theorem dX0_fromSingle_6 : decode cX0_fromSingle 6 = .ok (.istore_n 3, 1) := by decide +kernel
theorem dX0_fromSingle_7 : decode cX0_fromSingle 7 = .ok (.iload_n 3, 1) := by decide +kernel
theorem dX0_fromSingle_8 : decode cX0_fromSingle 8 = .ok (.iload_n 2, 1) := by decide +kernel
theorem dX0_fromSingle_9 : decode cX0_fromSingle 9 = .ok (.if_icmp .gt 45, 3) := by decide +kernel
theorem dX0_fromSingle_12 : decode cX0_fromSingle 12 = .ok (.iload_n 3, 1) := by decide +kernel
theorem dX0_fromSingle_13 : decode cX0_fromSingle 13 = .ok (.aload_n 0, 1) := by decide +kernel
theorem dX0_fromSingle_14 : decode cX0_fromSingle 14 = .ok (.getfield 7, 3) := by decide +kernel
theorem dX0_fromSingle_17 : decode cX0_fromSingle 17 = .ok (.iconst 2, 1) := by decide +kernel
theorem dX0_fromSingle_18 : decode cX0_fromSingle 18 = .ok (.iaload, 1) := by decide +kernel
theorem dX0_fromSingle_19 : decode cX0_fromSingle 19 = .ok (.if_icmp .gt 35, 3) := by decide +kernel
theorem dX0_fromSingle_22 : decode cX0_fromSingle 22 = .ok (.aload_n 0, 1) := by decide +kernel
theorem dX0_fromSingle_23 : decode cX0_fromSingle 23 = .ok (.iload_n 2, 1) := by decide +kernel
theorem dX0_fromSingle_24 : decode cX0_fromSingle 24 = .ok (.iload_n 3, 1) := by decide +kernel
theorem dX0_fromSingle_25 : decode cX0_fromSingle 25 = .ok (.isub, 1) := by decide +kernel
theorem dX0_fromSingle_26 : decode cX0_fromSingle 26 = .ok (.iconst 2, 1) := by decide +kernel
theorem dX0_fromSingle_27 : decode cX0_fromSingle 27 = .ok (.iload_n 3, 1) := by decide +kernel
theorem dX0_fromSingle_28 : decode cX0_fromSingle 28 = .ok (.imul, 1) := by decide +kernel
theorem dX0_fromSingle_29 : decode cX0_fromSingle 29 = .ok (.invokevirtual 49, 3) := by decide +kernel
theorem dX0_fromSingle_32 : decode cX0_fromSingle 32 = .ok (.istore 4, 2) := by decide +kernel
theorem dX0_fromSingle_34 : decode cX0_fromSingle 34 = .ok (.iload_n 1, 1) := by decide +kernel
theorem dX0_fromSingle_35 : decode cX0_fromSingle 35 = .ok (.ifCond .ne 8, 3) := by decide +kernel
theorem dX0_fromSingle_38 : decode cX0_fromSingle 38 = .ok (.iload 4, 2) := by decide +kernel
theorem dX0_fromSingle_40 : decode cX0_fromSingle 40 = .ok (.ifCond .ne 8, 3) := by decide +kernel
theorem dX0_fromSingle_43 : decode cX0_fromSingle 43 = .ok (.aload_n 0, 1) := by decide +kernel
theorem dX0_fromSingle_44 : decode cX0_fromSingle 44 = .ok (.iload_n 3, 1) := by decide +kernel
theorem dX0_fromSingle_45 : decode cX0_fromSingle 45 = .ok (.invokevirtual 56, 3) := by decide +kernel
theorem dX0_fromSingle_48 : decode cX0_fromSingle 48 = .ok (.iinc 3 1, 3) := by decide +kernel
theorem dX0_fromSingle_51 : decode cX0_fromSingle 51 = .ok (.goto (-44), 3) := by decide +kernel
theorem dX0_fromSingle_54 : decode cX0_fromSingle 54 = .ok (.return_, 1) := by decide +kernel
abbrev cX0_fromOne : ByteArray := prog_1_method_17_code
def yX0_fromOne : MethodName := ⟨RX0, "fromOne", "(IIZ)V"⟩
theorem dX0_fromOne_0 : decode cX0_fromOne 0 = .ok (.iconst 0, 1) := by decide +kernel
theorem dX0_fromOne_1 : decode cX0_fromOne 1 = .ok (.istore 4, 2) := by decide +kernel
theorem dX0_fromOne_3 : decode cX0_fromOne 3 = .ok (.iload 4, 2) := by decide +kernel
theorem dX0_fromOne_5 : decode cX0_fromOne 5 = .ok (.bipush 48, 2) := by decide +kernel
theorem dX0_fromOne_7 : decode cX0_fromOne 7 = .ok (.if_icmp .ge 126, 3) := by decide +kernel
theorem dX0_fromOne_10 : decode cX0_fromOne 10 = .ok (.iload 4, 2) := by decide +kernel
theorem dX0_fromOne_12 : decode cX0_fromOne 12 = .ok (.iconst 3, 1) := by decide +kernel
theorem dX0_fromOne_13 : decode cX0_fromOne 13 = .ok (.irem, 1) := by decide +kernel
theorem dX0_fromOne_14 : decode cX0_fromOne 14 = .ok (.istore 5, 2) := by decide +kernel
theorem dX0_fromOne_16 : decode cX0_fromOne 16 = .ok (.iload 4, 2) := by decide +kernel
theorem dX0_fromOne_18 : decode cX0_fromOne 18 = .ok (.iconst 3, 1) := by decide +kernel
theorem dX0_fromOne_19 : decode cX0_fromOne 19 = .ok (.idiv, 1) := by decide +kernel
theorem dX0_fromOne_20 : decode cX0_fromOne 20 = .ok (.iconst 1, 1) := by decide +kernel
theorem dX0_fromOne_21 : decode cX0_fromOne 21 = .ok (.iadd, 1) := by decide +kernel
theorem dX0_fromOne_22 : decode cX0_fromOne 22 = .ok (.istore 6, 2) := by decide +kernel
theorem dX0_fromOne_24 : decode cX0_fromOne 24 = .ok (.iload 5, 2) := by decide +kernel
theorem dX0_fromOne_26 : decode cX0_fromOne 26 = .ok (.iconst 2, 1) := by decide +kernel
theorem dX0_fromOne_27 : decode cX0_fromOne 27 = .ok (.if_icmp .lt 8, 3) := by decide +kernel
theorem dX0_fromOne_30 : decode cX0_fromOne 30 = .ok (.iload_n 1, 1) := by decide +kernel
theorem dX0_fromOne_31 : decode cX0_fromOne 31 = .ok (.iconst 4, 1) := by decide +kernel
theorem dX0_fromOne_32 : decode cX0_fromOne 32 = .ok (.if_icmp .eq 7, 3) := by decide +kernel
theorem dX0_fromOne_35 : decode cX0_fromOne 35 = .ok (.iconst 1, 1) := by decide +kernel
theorem dX0_fromOne_36 : decode cX0_fromOne 36 = .ok (.goto 4, 3) := by decide +kernel
theorem dX0_fromOne_39 : decode cX0_fromOne 39 = .ok (.iconst 0, 1) := by decide +kernel
theorem dX0_fromOne_40 : decode cX0_fromOne 40 = .ok (.istore 7, 2) := by decide +kernel
theorem dX0_fromOne_42 : decode cX0_fromOne 42 = .ok (.iload 7, 2) := by decide +kernel
theorem dX0_fromOne_44 : decode cX0_fromOne 44 = .ok (.ifCond .eq 83, 3) := by decide +kernel
theorem dX0_fromOne_47 : decode cX0_fromOne 47 = .ok (.iload 6, 2) := by decide +kernel
theorem dX0_fromOne_49 : decode cX0_fromOne 49 = .ok (.aload_n 0, 1) := by decide +kernel
theorem dX0_fromOne_50 : decode cX0_fromOne 50 = .ok (.getfield 7, 3) := by decide +kernel
theorem dX0_fromOne_53 : decode cX0_fromOne 53 = .ok (.iload 5, 2) := by decide +kernel
theorem dX0_fromOne_55 : decode cX0_fromOne 55 = .ok (.iaload, 1) := by decide +kernel
theorem dX0_fromOne_56 : decode cX0_fromOne 56 = .ok (.if_icmp .gt 71, 3) := by decide +kernel
theorem dX0_fromOne_59 : decode cX0_fromOne 59 = .ok (.iload 6, 2) := by decide +kernel
theorem dX0_fromOne_61 : decode cX0_fromOne 61 = .ok (.iload_n 2, 1) := by decide +kernel
theorem dX0_fromOne_62 : decode cX0_fromOne 62 = .ok (.if_icmp .gt 65, 3) := by decide +kernel
theorem dX0_fromOne_65 : decode cX0_fromOne 65 = .ok (.aload_n 0, 1) := by decide +kernel
theorem dX0_fromOne_66 : decode cX0_fromOne 66 = .ok (.iload_n 1, 1) := by decide +kernel
theorem dX0_fromOne_67 : decode cX0_fromOne 67 = .ok (.aload_n 0, 1) := by decide +kernel
theorem dX0_fromOne_68 : decode cX0_fromOne 68 = .ok (.getfield 7, 3) := by decide +kernel
theorem dX0_fromOne_71 : decode cX0_fromOne 71 = .ok (.iconst 0, 1) := by decide +kernel
theorem dX0_fromOne_72 : decode cX0_fromOne 72 = .ok (.iaload, 1) := by decide +kernel
theorem dX0_fromOne_73 : decode cX0_fromOne 73 = .ok (.iload 5, 2) := by decide +kernel
theorem dX0_fromOne_75 : decode cX0_fromOne 75 = .ok (.ifCond .ne 8, 3) := by decide +kernel
theorem dX0_fromOne_78 : decode cX0_fromOne 78 = .ok (.iload 6, 2) := by decide +kernel
theorem dX0_fromOne_80 : decode cX0_fromOne 80 = .ok (.goto 4, 3) := by decide +kernel
theorem dX0_fromOne_83 : decode cX0_fromOne 83 = .ok (.iconst 0, 1) := by decide +kernel
theorem dX0_fromOne_84 : decode cX0_fromOne 84 = .ok (.isub, 1) := by decide +kernel
theorem dX0_fromOne_85 : decode cX0_fromOne 85 = .ok (.aload_n 0, 1) := by decide +kernel
theorem dX0_fromOne_86 : decode cX0_fromOne 86 = .ok (.getfield 7, 3) := by decide +kernel
theorem dX0_fromOne_89 : decode cX0_fromOne 89 = .ok (.iconst 1, 1) := by decide +kernel
theorem dX0_fromOne_90 : decode cX0_fromOne 90 = .ok (.iaload, 1) := by decide +kernel
theorem dX0_fromOne_91 : decode cX0_fromOne 91 = .ok (.iload 5, 2) := by decide +kernel
theorem dX0_fromOne_93 : decode cX0_fromOne 93 = .ok (.iconst 1, 1) := by decide +kernel
theorem dX0_fromOne_94 : decode cX0_fromOne 94 = .ok (.if_icmp .ne 8, 3) := by decide +kernel
theorem dX0_fromOne_97 : decode cX0_fromOne 97 = .ok (.iload 6, 2) := by decide +kernel
theorem dX0_fromOne_99 : decode cX0_fromOne 99 = .ok (.goto 4, 3) := by decide +kernel
theorem dX0_fromOne_102 : decode cX0_fromOne 102 = .ok (.iconst 0, 1) := by decide +kernel
theorem dX0_fromOne_103 : decode cX0_fromOne 103 = .ok (.isub, 1) := by decide +kernel
theorem dX0_fromOne_104 : decode cX0_fromOne 104 = .ok (.aload_n 0, 1) := by decide +kernel
theorem dX0_fromOne_105 : decode cX0_fromOne 105 = .ok (.getfield 7, 3) := by decide +kernel
theorem dX0_fromOne_108 : decode cX0_fromOne 108 = .ok (.iconst 2, 1) := by decide +kernel
theorem dX0_fromOne_109 : decode cX0_fromOne 109 = .ok (.iaload, 1) := by decide +kernel
theorem dX0_fromOne_110 : decode cX0_fromOne 110 = .ok (.iload 5, 2) := by decide +kernel
theorem dX0_fromOne_112 : decode cX0_fromOne 112 = .ok (.iconst 2, 1) := by decide +kernel
theorem dX0_fromOne_113 : decode cX0_fromOne 113 = .ok (.if_icmp .ne 8, 3) := by decide +kernel
theorem dX0_fromOne_116 : decode cX0_fromOne 116 = .ok (.iload 6, 2) := by decide +kernel
theorem dX0_fromOne_118 : decode cX0_fromOne 118 = .ok (.goto 4, 3) := by decide +kernel
theorem dX0_fromOne_121 : decode cX0_fromOne 121 = .ok (.iconst 0, 1) := by decide +kernel
theorem dX0_fromOne_122 : decode cX0_fromOne 122 = .ok (.isub, 1) := by decide +kernel
theorem dX0_fromOne_123 : decode cX0_fromOne 123 = .ok (.iload_n 3, 1) := by decide +kernel
theorem dX0_fromOne_124 : decode cX0_fromOne 124 = .ok (.invokevirtual 60, 3) := by decide +kernel
theorem dX0_fromOne_127 : decode cX0_fromOne 127 = .ok (.iinc 4 1, 3) := by decide +kernel
theorem dX0_fromOne_130 : decode cX0_fromOne 130 = .ok (.goto (-127), 3) := by decide +kernel
theorem dX0_fromOne_133 : decode cX0_fromOne 133 = .ok (.return_, 1) := by decide +kernel
abbrev cX0_fromTwo : ByteArray := prog_1_method_18_code
def yX0_fromTwo : MethodName := ⟨RX0, "fromTwo", "(IZ)V"⟩
theorem dX0_fromTwo_0 : decode cX0_fromTwo 0 = .ok (.iload_n 1, 1) := by decide +kernel
theorem dX0_fromTwo_1 : decode cX0_fromTwo 1 = .ok (.ifCond .ne 7, 3) := by decide +kernel
theorem dX0_fromTwo_4 : decode cX0_fromTwo 4 = .ok (.iconst 1, 1) := by decide +kernel
theorem dX0_fromTwo_5 : decode cX0_fromTwo 5 = .ok (.goto 4, 3) := by decide +kernel
theorem dX0_fromTwo_8 : decode cX0_fromTwo 8 = .ok (.iconst 0, 1) := by decide +kernel
theorem dX0_fromTwo_9 : decode cX0_fromTwo 9 = .ok (.istore_n 3, 1) := by decide +kernel
theorem dX0_fromTwo_10 : decode cX0_fromTwo 10 = .ok (.iload_n 1, 1) := by decide +kernel
theorem dX0_fromTwo_11 : decode cX0_fromTwo 11 = .ok (.iconst 2, 1) := by decide +kernel
theorem dX0_fromTwo_12 : decode cX0_fromTwo 12 = .ok (.if_icmp .ne 7, 3) := by decide +kernel
theorem dX0_fromTwo_15 : decode cX0_fromTwo 15 = .ok (.iconst 1, 1) := by decide +kernel
theorem dX0_fromTwo_16 : decode cX0_fromTwo 16 = .ok (.goto 4, 3) := by decide +kernel
theorem dX0_fromTwo_19 : decode cX0_fromTwo 19 = .ok (.iconst 2, 1) := by decide +kernel
theorem dX0_fromTwo_20 : decode cX0_fromTwo 20 = .ok (.istore 4, 2) := by decide +kernel
theorem dX0_fromTwo_22 : decode cX0_fromTwo 22 = .ok (.iconst 0, 1) := by decide +kernel
theorem dX0_fromTwo_23 : decode cX0_fromTwo 23 = .ok (.istore 5, 2) := by decide +kernel
theorem dX0_fromTwo_25 : decode cX0_fromTwo 25 = .ok (.iload 5, 2) := by decide +kernel
theorem dX0_fromTwo_27 : decode cX0_fromTwo 27 = .ok (.aload_n 0, 1) := by decide +kernel
theorem dX0_fromTwo_28 : decode cX0_fromTwo 28 = .ok (.getfield 7, 3) := by decide +kernel
theorem dX0_fromTwo_31 : decode cX0_fromTwo 31 = .ok (.iload_n 3, 1) := by decide +kernel
theorem dX0_fromTwo_32 : decode cX0_fromTwo 32 = .ok (.iaload, 1) := by decide +kernel
theorem dX0_fromTwo_33 : decode cX0_fromTwo 33 = .ok (.aload_n 0, 1) := by decide +kernel
theorem dX0_fromTwo_34 : decode cX0_fromTwo 34 = .ok (.getfield 7, 3) := by decide +kernel
theorem dX0_fromTwo_37 : decode cX0_fromTwo 37 = .ok (.iload 4, 2) := by decide +kernel
theorem dX0_fromTwo_39 : decode cX0_fromTwo 39 = .ok (.iaload, 1) := by decide +kernel
theorem dX0_fromTwo_40 : decode cX0_fromTwo 40 = .ok (.imul, 1) := by decide +kernel
theorem dX0_fromTwo_41 : decode cX0_fromTwo 41 = .ok (.if_icmp .ge 108, 3) := by decide +kernel
theorem dX0_fromTwo_44 : decode cX0_fromTwo 44 = .ok (.iload 5, 2) := by decide +kernel
theorem dX0_fromTwo_46 : decode cX0_fromTwo 46 = .ok (.aload_n 0, 1) := by decide +kernel
theorem dX0_fromTwo_47 : decode cX0_fromTwo 47 = .ok (.getfield 7, 3) := by decide +kernel
theorem dX0_fromTwo_50 : decode cX0_fromTwo 50 = .ok (.iload_n 3, 1) := by decide +kernel
theorem dX0_fromTwo_51 : decode cX0_fromTwo 51 = .ok (.iaload, 1) := by decide +kernel
theorem dX0_fromTwo_52 : decode cX0_fromTwo 52 = .ok (.irem, 1) := by decide +kernel
theorem dX0_fromTwo_53 : decode cX0_fromTwo 53 = .ok (.istore 6, 2) := by decide +kernel
theorem dX0_fromTwo_55 : decode cX0_fromTwo 55 = .ok (.iload 5, 2) := by decide +kernel
theorem dX0_fromTwo_57 : decode cX0_fromTwo 57 = .ok (.aload_n 0, 1) := by decide +kernel
theorem dX0_fromTwo_58 : decode cX0_fromTwo 58 = .ok (.getfield 7, 3) := by decide +kernel
theorem dX0_fromTwo_61 : decode cX0_fromTwo 61 = .ok (.iload_n 3, 1) := by decide +kernel
theorem dX0_fromTwo_62 : decode cX0_fromTwo 62 = .ok (.iaload, 1) := by decide +kernel
theorem dX0_fromTwo_63 : decode cX0_fromTwo 63 = .ok (.idiv, 1) := by decide +kernel
theorem dX0_fromTwo_64 : decode cX0_fromTwo 64 = .ok (.istore 7, 2) := by decide +kernel
theorem dX0_fromTwo_66 : decode cX0_fromTwo 66 = .ok (.iload_n 3, 1) := by decide +kernel
theorem dX0_fromTwo_67 : decode cX0_fromTwo 67 = .ok (.ifCond .ne 8, 3) := by decide +kernel
theorem dX0_fromTwo_70 : decode cX0_fromTwo 70 = .ok (.iload 6, 2) := by decide +kernel
theorem dX0_fromTwo_72 : decode cX0_fromTwo 72 = .ok (.goto 9, 3) := by decide +kernel
theorem dX0_fromTwo_75 : decode cX0_fromTwo 75 = .ok (.aload_n 0, 1) := by decide +kernel
theorem dX0_fromTwo_76 : decode cX0_fromTwo 76 = .ok (.getfield 7, 3) := by decide +kernel
theorem dX0_fromTwo_79 : decode cX0_fromTwo 79 = .ok (.iconst 0, 1) := by decide +kernel
theorem dX0_fromTwo_80 : decode cX0_fromTwo 80 = .ok (.iaload, 1) := by decide +kernel
theorem dX0_fromTwo_81 : decode cX0_fromTwo 81 = .ok (.istore 8, 2) := by decide +kernel
theorem dX0_fromTwo_83 : decode cX0_fromTwo 83 = .ok (.iload_n 3, 1) := by decide +kernel
theorem dX0_fromTwo_84 : decode cX0_fromTwo 84 = .ok (.iconst 1, 1) := by decide +kernel
theorem dX0_fromTwo_85 : decode cX0_fromTwo 85 = .ok (.if_icmp .ne 8, 3) := by decide +kernel
theorem dX0_fromTwo_88 : decode cX0_fromTwo 88 = .ok (.iload 6, 2) := by decide +kernel
theorem dX0_fromTwo_90 : decode cX0_fromTwo 90 = .ok (.goto 20, 3) := by decide +kernel
theorem dX0_fromTwo_93 : decode cX0_fromTwo 93 = .ok (.iload 4, 2) := by decide +kernel
theorem dX0_fromTwo_95 : decode cX0_fromTwo 95 = .ok (.iconst 1, 1) := by decide +kernel
theorem dX0_fromTwo_96 : decode cX0_fromTwo 96 = .ok (.if_icmp .ne 8, 3) := by decide +kernel
theorem dX0_fromTwo_99 : decode cX0_fromTwo 99 = .ok (.iload 7, 2) := by decide +kernel
theorem dX0_fromTwo_101 : decode cX0_fromTwo 101 = .ok (.goto 9, 3) := by decide +kernel
theorem dX0_fromTwo_104 : decode cX0_fromTwo 104 = .ok (.aload_n 0, 1) := by decide +kernel
theorem dX0_fromTwo_105 : decode cX0_fromTwo 105 = .ok (.getfield 7, 3) := by decide +kernel
theorem dX0_fromTwo_108 : decode cX0_fromTwo 108 = .ok (.iconst 1, 1) := by decide +kernel
theorem dX0_fromTwo_109 : decode cX0_fromTwo 109 = .ok (.iaload, 1) := by decide +kernel
theorem dX0_fromTwo_110 : decode cX0_fromTwo 110 = .ok (.istore 9, 2) := by decide +kernel
theorem dX0_fromTwo_112 : decode cX0_fromTwo 112 = .ok (.iload 4, 2) := by decide +kernel
theorem dX0_fromTwo_114 : decode cX0_fromTwo 114 = .ok (.iconst 2, 1) := by decide +kernel
theorem dX0_fromTwo_115 : decode cX0_fromTwo 115 = .ok (.if_icmp .ne 8, 3) := by decide +kernel
theorem dX0_fromTwo_118 : decode cX0_fromTwo 118 = .ok (.iload 7, 2) := by decide +kernel
theorem dX0_fromTwo_120 : decode cX0_fromTwo 120 = .ok (.goto 9, 3) := by decide +kernel
theorem dX0_fromTwo_123 : decode cX0_fromTwo 123 = .ok (.aload_n 0, 1) := by decide +kernel
theorem dX0_fromTwo_124 : decode cX0_fromTwo 124 = .ok (.getfield 7, 3) := by decide +kernel
theorem dX0_fromTwo_127 : decode cX0_fromTwo 127 = .ok (.iconst 2, 1) := by decide +kernel
theorem dX0_fromTwo_128 : decode cX0_fromTwo 128 = .ok (.iaload, 1) := by decide +kernel
theorem dX0_fromTwo_129 : decode cX0_fromTwo 129 = .ok (.istore 10, 2) := by decide +kernel
theorem dX0_fromTwo_131 : decode cX0_fromTwo 131 = .ok (.aload_n 0, 1) := by decide +kernel
theorem dX0_fromTwo_132 : decode cX0_fromTwo 132 = .ok (.iconst 2, 1) := by decide +kernel
theorem dX0_fromTwo_133 : decode cX0_fromTwo 133 = .ok (.iload 8, 2) := by decide +kernel
theorem dX0_fromTwo_135 : decode cX0_fromTwo 135 = .ok (.iload 9, 2) := by decide +kernel
theorem dX0_fromTwo_137 : decode cX0_fromTwo 137 = .ok (.iload 10, 2) := by decide +kernel
theorem dX0_fromTwo_139 : decode cX0_fromTwo 139 = .ok (.iload_n 2, 1) := by decide +kernel
theorem dX0_fromTwo_140 : decode cX0_fromTwo 140 = .ok (.invokevirtual 60, 3) := by decide +kernel
theorem dX0_fromTwo_143 : decode cX0_fromTwo 143 = .ok (.iinc 5 1, 3) := by decide +kernel
theorem dX0_fromTwo_146 : decode cX0_fromTwo 146 = .ok (.goto (-121), 3) := by decide +kernel
theorem dX0_fromTwo_149 : decode cX0_fromTwo 149 = .ok (.return_, 1) := by decide +kernel
abbrev cX0_equallyMany : ByteArray := prog_1_method_20_code
def yX0_equallyMany : MethodName := ⟨RX0, "equallyMany", "(Z)V"⟩
theorem dX0_equallyMany_0 : decode cX0_equallyMany 0 = .ok (.iconst 1, 1) := by decide +kernel
theorem dX0_equallyMany_1 : decode cX0_equallyMany 1 = .ok (.istore_n 2, 1) := by decide +kernel
theorem dX0_equallyMany_2 : decode cX0_equallyMany 2 = .ok (.iload_n 2, 1) := by decide +kernel
theorem dX0_equallyMany_3 : decode cX0_equallyMany 3 = .ok (.aload_n 0, 1) := by decide +kernel
theorem dX0_equallyMany_4 : decode cX0_equallyMany 4 = .ok (.getfield 7, 3) := by decide +kernel
theorem dX0_equallyMany_7 : decode cX0_equallyMany 7 = .ok (.iconst 0, 1) := by decide +kernel
theorem dX0_equallyMany_8 : decode cX0_equallyMany 8 = .ok (.iaload, 1) := by decide +kernel
theorem dX0_equallyMany_9 : decode cX0_equallyMany 9 = .ok (.if_icmp .gt 47, 3) := by decide +kernel
theorem dX0_equallyMany_12 : decode cX0_equallyMany 12 = .ok (.iload_n 2, 1) := by decide +kernel
theorem dX0_equallyMany_13 : decode cX0_equallyMany 13 = .ok (.aload_n 0, 1) := by decide +kernel
theorem dX0_equallyMany_14 : decode cX0_equallyMany 14 = .ok (.getfield 7, 3) := by decide +kernel
theorem dX0_equallyMany_17 : decode cX0_equallyMany 17 = .ok (.iconst 1, 1) := by decide +kernel
theorem dX0_equallyMany_18 : decode cX0_equallyMany 18 = .ok (.iaload, 1) := by decide +kernel
theorem dX0_equallyMany_19 : decode cX0_equallyMany 19 = .ok (.if_icmp .gt 37, 3) := by decide +kernel
theorem dX0_equallyMany_22 : decode cX0_equallyMany 22 = .ok (.aload_n 0, 1) := by decide +kernel
theorem dX0_equallyMany_23 : decode cX0_equallyMany 23 = .ok (.iconst 4, 1) := by decide +kernel
theorem dX0_equallyMany_24 : decode cX0_equallyMany 24 = .ok (.aload_n 0, 1) := by decide +kernel
theorem dX0_equallyMany_25 : decode cX0_equallyMany 25 = .ok (.getfield 7, 3) := by decide +kernel
theorem dX0_equallyMany_28 : decode cX0_equallyMany 28 = .ok (.iconst 0, 1) := by decide +kernel
theorem dX0_equallyMany_29 : decode cX0_equallyMany 29 = .ok (.iaload, 1) := by decide +kernel
theorem dX0_equallyMany_30 : decode cX0_equallyMany 30 = .ok (.iload_n 2, 1) := by decide +kernel
theorem dX0_equallyMany_31 : decode cX0_equallyMany 31 = .ok (.isub, 1) := by decide +kernel
theorem dX0_equallyMany_32 : decode cX0_equallyMany 32 = .ok (.aload_n 0, 1) := by decide +kernel
theorem dX0_equallyMany_33 : decode cX0_equallyMany 33 = .ok (.getfield 7, 3) := by decide +kernel
theorem dX0_equallyMany_36 : decode cX0_equallyMany 36 = .ok (.iconst 1, 1) := by decide +kernel
theorem dX0_equallyMany_37 : decode cX0_equallyMany 37 = .ok (.iaload, 1) := by decide +kernel
theorem dX0_equallyMany_38 : decode cX0_equallyMany 38 = .ok (.iload_n 2, 1) := by decide +kernel
theorem dX0_equallyMany_39 : decode cX0_equallyMany 39 = .ok (.isub, 1) := by decide +kernel
theorem dX0_equallyMany_40 : decode cX0_equallyMany 40 = .ok (.aload_n 0, 1) := by decide +kernel
theorem dX0_equallyMany_41 : decode cX0_equallyMany 41 = .ok (.getfield 7, 3) := by decide +kernel
theorem dX0_equallyMany_44 : decode cX0_equallyMany 44 = .ok (.iconst 2, 1) := by decide +kernel
theorem dX0_equallyMany_45 : decode cX0_equallyMany 45 = .ok (.iaload, 1) := by decide +kernel
theorem dX0_equallyMany_46 : decode cX0_equallyMany 46 = .ok (.iload_n 1, 1) := by decide +kernel
theorem dX0_equallyMany_47 : decode cX0_equallyMany 47 = .ok (.invokevirtual 60, 3) := by decide +kernel
theorem dX0_equallyMany_50 : decode cX0_equallyMany 50 = .ok (.iinc 2 1, 3) := by decide +kernel
theorem dX0_equallyMany_53 : decode cX0_equallyMany 53 = .ok (.goto (-51), 3) := by decide +kernel
theorem dX0_equallyMany_56 : decode cX0_equallyMany 56 = .ok (.return_, 1) := by decide +kernel
abbrev cX0_winning : ByteArray := prog_1_method_25_code
def yX0_winning : MethodName := ⟨RX0, "winning", "(I)I"⟩
theorem dX0_winning_0 : decode cX0_winning 0 = .ok (.aload_n 0, 1) := by decide +kernel
theorem dX0_winning_1 : decode cX0_winning 1 = .ok (.iload_n 1, 1) := by decide +kernel
theorem dX0_winning_2 : decode cX0_winning 2 = .ok (.invokevirtual 42, 3) := by decide +kernel
theorem dX0_winning_5 : decode cX0_winning 5 = .ok (.ifCond .eq 5, 3) := by decide +kernel
theorem dX0_winning_8 : decode cX0_winning 8 = .ok (.iconst (-1), 1) := by decide +kernel
theorem dX0_winning_9 : decode cX0_winning 9 = .ok (.ireturn, 1) := by decide +kernel
theorem dX0_winning_10 : decode cX0_winning 10 = .ok (.aload_n 0, 1) := by decide +kernel
theorem dX0_winning_11 : decode cX0_winning 11 = .ok (.iload_n 1, 1) := by decide +kernel
theorem dX0_winning_12 : decode cX0_winning 12 = .ok (.iconst 0, 1) := by decide +kernel
theorem dX0_winning_13 : decode cX0_winning 13 = .ok (.invokevirtual 85, 3) := by decide +kernel
theorem dX0_winning_16 : decode cX0_winning 16 = .ok (.aload_n 0, 1) := by decide +kernel
theorem dX0_winning_17 : decode cX0_winning 17 = .ok (.getfield 16, 3) := by decide +kernel
theorem dX0_winning_20 : decode cX0_winning 20 = .ok (.ireturn, 1) := by decide +kernel
abbrev cX0_winningMove : ByteArray := prog_1_method_26_code
def yX0_winningMove : MethodName := ⟨RX0, "winningMove", "(II)I"⟩
theorem dX0_winningMove_0 : decode cX0_winningMove 0 = .ok (.aload_n 0, 1) := by decide +kernel
theorem dX0_winningMove_1 : decode cX0_winningMove 1 = .ok (.iload_n 1, 1) := by decide +kernel
theorem dX0_winningMove_2 : decode cX0_winningMove 2 = .ok (.invokevirtual 42, 3) := by decide +kernel
theorem dX0_winningMove_5 : decode cX0_winningMove 5 = .ok (.ifCond .eq 5, 3) := by decide +kernel
theorem dX0_winningMove_8 : decode cX0_winningMove 8 = .ok (.iconst (-1), 1) := by decide +kernel
theorem dX0_winningMove_9 : decode cX0_winningMove 9 = .ok (.ireturn, 1) := by decide +kernel
theorem dX0_winningMove_10 : decode cX0_winningMove 10 = .ok (.aload_n 0, 1) := by decide +kernel
theorem dX0_winningMove_11 : decode cX0_winningMove 11 = .ok (.iload_n 1, 1) := by decide +kernel
theorem dX0_winningMove_12 : decode cX0_winningMove 12 = .ok (.iconst 0, 1) := by decide +kernel
theorem dX0_winningMove_13 : decode cX0_winningMove 13 = .ok (.invokevirtual 85, 3) := by decide +kernel
theorem dX0_winningMove_16 : decode cX0_winningMove 16 = .ok (.iload_n 2, 1) := by decide +kernel
theorem dX0_winningMove_17 : decode cX0_winningMove 17 = .ok (.ifCond .lt 11, 3) := by decide +kernel
theorem dX0_winningMove_20 : decode cX0_winningMove 20 = .ok (.iload_n 2, 1) := by decide +kernel
theorem dX0_winningMove_21 : decode cX0_winningMove 21 = .ok (.aload_n 0, 1) := by decide +kernel
theorem dX0_winningMove_22 : decode cX0_winningMove 22 = .ok (.getfield 16, 3) := by decide +kernel
theorem dX0_winningMove_25 : decode cX0_winningMove 25 = .ok (.if_icmp .lt 8, 3) := by decide +kernel
theorem dX0_winningMove_28 : decode cX0_winningMove 28 = .ok (.bipush (-4), 2) := by decide +kernel
theorem dX0_winningMove_30 : decode cX0_winningMove 30 = .ok (.goto 9, 3) := by decide +kernel
theorem dX0_winningMove_33 : decode cX0_winningMove 33 = .ok (.aload_n 0, 1) := by decide +kernel
theorem dX0_winningMove_34 : decode cX0_winningMove 34 = .ok (.getfield 13, 3) := by decide +kernel
theorem dX0_winningMove_37 : decode cX0_winningMove 37 = .ok (.iload_n 2, 1) := by decide +kernel
theorem dX0_winningMove_38 : decode cX0_winningMove 38 = .ok (.iaload, 1) := by decide +kernel
theorem dX0_winningMove_39 : decode cX0_winningMove 39 = .ok (.ireturn, 1) := by decide +kernel
abbrev cX0_value : ByteArray := prog_1_method_27_code
def yX0_value : MethodName := ⟨RX0, "value", "(I)I"⟩
theorem dX0_value_0 : decode cX0_value 0 = .ok (.iload_n 1, 1) := by decide +kernel
theorem dX0_value_1 : decode cX0_value 1 = .ok (.ifCond .eq 11, 3) := by decide +kernel
theorem dX0_value_4 : decode cX0_value 4 = .ok (.iload_n 1, 1) := by decide +kernel
theorem dX0_value_5 : decode cX0_value 5 = .ok (.bipush 7, 2) := by decide +kernel
theorem dX0_value_7 : decode cX0_value 7 = .ok (.if_icmp .eq 5, 3) := by decide +kernel
theorem dX0_value_10 : decode cX0_value 10 = .ok (.iconst (-1), 1) := by decide +kernel
theorem dX0_value_11 : decode cX0_value 11 = .ok (.ireturn, 1) := by decide +kernel
theorem dX0_value_12 : decode cX0_value 12 = .ok (.aload_n 0, 1) := by decide +kernel
theorem dX0_value_13 : decode cX0_value 13 = .ok (.getfield 7, 3) := by decide +kernel
theorem dX0_value_16 : decode cX0_value 16 = .ok (.iconst 0, 1) := by decide +kernel
theorem dX0_value_17 : decode cX0_value 17 = .ok (.iaload, 1) := by decide +kernel
theorem dX0_value_18 : decode cX0_value 18 = .ok (.aload_n 0, 1) := by decide +kernel
theorem dX0_value_19 : decode cX0_value 19 = .ok (.getfield 7, 3) := by decide +kernel
theorem dX0_value_22 : decode cX0_value 22 = .ok (.iconst 1, 1) := by decide +kernel
theorem dX0_value_23 : decode cX0_value 23 = .ok (.iaload, 1) := by decide +kernel
theorem dX0_value_24 : decode cX0_value 24 = .ok (.ixor, 1) := by decide +kernel
theorem dX0_value_25 : decode cX0_value 25 = .ok (.aload_n 0, 1) := by decide +kernel
theorem dX0_value_26 : decode cX0_value 26 = .ok (.getfield 7, 3) := by decide +kernel
theorem dX0_value_29 : decode cX0_value 29 = .ok (.iconst 2, 1) := by decide +kernel
theorem dX0_value_30 : decode cX0_value 30 = .ok (.iaload, 1) := by decide +kernel
theorem dX0_value_31 : decode cX0_value 31 = .ok (.ixor, 1) := by decide +kernel
theorem dX0_value_32 : decode cX0_value 32 = .ok (.istore_n 2, 1) := by decide +kernel
theorem dX0_value_33 : decode cX0_value 33 = .ok (.iload_n 1, 1) := by decide +kernel
theorem dX0_value_34 : decode cX0_value 34 = .ok (.ifCond .ne 7, 3) := by decide +kernel
theorem dX0_value_37 : decode cX0_value 37 = .ok (.iload_n 2, 1) := by decide +kernel
theorem dX0_value_38 : decode cX0_value 38 = .ok (.goto 6, 3) := by decide +kernel
theorem dX0_value_41 : decode cX0_value 41 = .ok (.iload_n 2, 1) := by decide +kernel
theorem dX0_value_42 : decode cX0_value 42 = .ok (.iconst 3, 1) := by decide +kernel
theorem dX0_value_43 : decode cX0_value 43 = .ok (.iand, 1) := by decide +kernel
theorem dX0_value_44 : decode cX0_value 44 = .ok (.ireturn, 1) := by decide +kernel
end
section
set_option maxRecDepth 100000
abbrev cX0_play : ByteArray := prog_1_method_28_code
def yX0_play : MethodName := ⟨RX0, "play", "(II)I"⟩
theorem dX0_play_0 : decode cX0_play 0 = .ok (.aload_n 0, 1) := by decide +kernel
theorem dX0_play_1 : decode cX0_play 1 = .ok (.iload_n 1, 1) := by decide +kernel
theorem dX0_play_2 : decode cX0_play 2 = .ok (.invokevirtual 42, 3) := by decide +kernel
theorem dX0_play_5 : decode cX0_play 5 = .ok (.ifCond .ne 14, 3) := by decide +kernel
theorem dX0_play_8 : decode cX0_play 8 = .ok (.iload_n 1, 1) := by decide +kernel
theorem dX0_play_9 : decode cX0_play 9 = .ok (.iconst 3, 1) := by decide +kernel
theorem dX0_play_10 : decode cX0_play 10 = .ok (.if_icmp .eq 9, 3) := by decide +kernel
theorem dX0_play_13 : decode cX0_play 13 = .ok (.iload_n 1, 1) := by decide +kernel
theorem dX0_play_14 : decode cX0_play 14 = .ok (.bipush 6, 2) := by decide +kernel
theorem dX0_play_16 : decode cX0_play 16 = .ok (.if_icmp .ne 5, 3) := by decide +kernel
theorem dX0_play_19 : decode cX0_play 19 = .ok (.iconst (-1), 1) := by decide +kernel
theorem dX0_play_20 : decode cX0_play 20 = .ok (.ireturn, 1) := by decide +kernel
theorem dX0_play_21 : decode cX0_play 21 = .ok (.aload_n 0, 1) := by decide +kernel
theorem dX0_play_22 : decode cX0_play 22 = .ok (.iload_n 1, 1) := by decide +kernel
theorem dX0_play_23 : decode cX0_play 23 = .ok (.iconst 0, 1) := by decide +kernel
theorem dX0_play_24 : decode cX0_play 24 = .ok (.invokevirtual 85, 3) := by decide +kernel
theorem dX0_play_27 : decode cX0_play 27 = .ok (.iload_n 2, 1) := by decide +kernel
theorem dX0_play_28 : decode cX0_play 28 = .ok (.ifCond .lt 11, 3) := by decide +kernel
theorem dX0_play_31 : decode cX0_play 31 = .ok (.iload_n 2, 1) := by decide +kernel
theorem dX0_play_32 : decode cX0_play 32 = .ok (.aload_n 0, 1) := by decide +kernel
theorem dX0_play_33 : decode cX0_play 33 = .ok (.getfield 16, 3) := by decide +kernel
theorem dX0_play_36 : decode cX0_play 36 = .ok (.if_icmp .lt 6, 3) := by decide +kernel
theorem dX0_play_39 : decode cX0_play 39 = .ok (.bipush (-4), 2) := by decide +kernel
theorem dX0_play_41 : decode cX0_play 41 = .ok (.ireturn, 1) := by decide +kernel
theorem dX0_play_42 : decode cX0_play 42 = .ok (.aload_n 0, 1) := by decide +kernel
theorem dX0_play_43 : decode cX0_play 43 = .ok (.getfield 13, 3) := by decide +kernel
theorem dX0_play_46 : decode cX0_play 46 = .ok (.iload_n 2, 1) := by decide +kernel
theorem dX0_play_47 : decode cX0_play 47 = .ok (.iaload, 1) := by decide +kernel
theorem dX0_play_48 : decode cX0_play 48 = .ok (.istore_n 3, 1) := by decide +kernel
theorem dX0_play_49 : decode cX0_play 49 = .ok (.aload_n 0, 1) := by decide +kernel
theorem dX0_play_50 : decode cX0_play 50 = .ok (.getfield 7, 3) := by decide +kernel
theorem dX0_play_53 : decode cX0_play 53 = .ok (.iconst 0, 1) := by decide +kernel
theorem dX0_play_54 : decode cX0_play 54 = .ok (.iload_n 3, 1) := by decide +kernel
theorem dX0_play_55 : decode cX0_play 55 = .ok (.bipush 31, 2) := by decide +kernel
theorem dX0_play_57 : decode cX0_play 57 = .ok (.iand, 1) := by decide +kernel
theorem dX0_play_58 : decode cX0_play 58 = .ok (.iastore, 1) := by decide +kernel
theorem dX0_play_59 : decode cX0_play 59 = .ok (.aload_n 0, 1) := by decide +kernel
theorem dX0_play_60 : decode cX0_play 60 = .ok (.getfield 7, 3) := by decide +kernel
theorem dX0_play_63 : decode cX0_play 63 = .ok (.iconst 1, 1) := by decide +kernel
theorem dX0_play_64 : decode cX0_play 64 = .ok (.iload_n 3, 1) := by decide +kernel
theorem dX0_play_65 : decode cX0_play 65 = .ok (.iconst 5, 1) := by decide +kernel
theorem dX0_play_66 : decode cX0_play 66 = .ok (.ishr, 1) := by decide +kernel
theorem dX0_play_67 : decode cX0_play 67 = .ok (.bipush 31, 2) := by decide +kernel
theorem dX0_play_69 : decode cX0_play 69 = .ok (.iand, 1) := by decide +kernel
theorem dX0_play_70 : decode cX0_play 70 = .ok (.iastore, 1) := by decide +kernel
theorem dX0_play_71 : decode cX0_play 71 = .ok (.aload_n 0, 1) := by decide +kernel
theorem dX0_play_72 : decode cX0_play 72 = .ok (.getfield 7, 3) := by decide +kernel
theorem dX0_play_75 : decode cX0_play 75 = .ok (.iconst 2, 1) := by decide +kernel
theorem dX0_play_76 : decode cX0_play 76 = .ok (.iload_n 3, 1) := by decide +kernel
theorem dX0_play_77 : decode cX0_play 77 = .ok (.bipush 10, 2) := by decide +kernel
theorem dX0_play_79 : decode cX0_play 79 = .ok (.ishr, 1) := by decide +kernel
theorem dX0_play_80 : decode cX0_play 80 = .ok (.iastore, 1) := by decide +kernel
theorem dX0_play_81 : decode cX0_play 81 = .ok (.aload_n 0, 1) := by decide +kernel
theorem dX0_play_82 : decode cX0_play 82 = .ok (.iload_n 1, 1) := by decide +kernel
theorem dX0_play_83 : decode cX0_play 83 = .ok (.invokevirtual 88, 3) := by decide +kernel
theorem dX0_play_86 : decode cX0_play 86 = .ok (.ireturn, 1) := by decide +kernel
theorem q37 : (Jvm.Cond.initialized "HeapGames") ∈ lw_all := lw_g (lw_at lw_m1 1 rfl) rfl
theorem q40 : (Jvm.Cond.instantiable "HeapGames" (3 : Nat)) ∈ lw_all := lw_g (lw_at lw_m1 4 rfl) rfl
theorem q42 : (Jvm.Cond.instanceMethod ({ cls := "HeapGames", name := "<init>", desc := "()V" } : Jvm.MethodName)) ∈ lw_all := lw_g (lw_at lw_m1 6 rfl) rfl
theorem q43 : (Jvm.Cond.code ({ cls := "HeapGames", name := "<init>", desc := "()V" } : Jvm.MethodName) prog_1_method_1_code (1 : Nat) (Option.none : Option Jvm.ClassFile.FieldType)) ∈ lw_all := lw_g (lw_at lw_m1 7 rfl) rfl
theorem q44 : (Jvm.Cond.methodLink "HeapGames" (1 : Nat) ({ cls := "java/lang/Object", name := "<init>", desc := "()V" } : Jvm.MethodName)) ∈ lw_all := lw_g (lw_at lw_m1 8 rfl) rfl
theorem q47 : (Jvm.Cond.fieldLink "HeapGames" (7 : Nat) "HeapGames" "heaps" "[I") ∈ lw_all := lw_g (lw_at lw_m1 11 rfl) rfl
theorem q48 : (Jvm.Cond.fieldLink "HeapGames" (16 : Nat) "HeapGames" "found" "I") ∈ lw_all := lw_g (lw_at lw_m1 12 rfl) rfl
theorem q49 : (Jvm.Cond.fieldLink "HeapGames" (13 : Nat) "HeapGames" "moves" "[I") ∈ lw_all := lw_g (lw_at lw_m1 13 rfl) rfl
theorem q50 : (Jvm.Cond.laysFinal "HeapGames" "HeapGames" "heaps" "[I") ∈ lw_all := lw_g (lw_at lw_m1 14 rfl) rfl
theorem q51 : (Jvm.Cond.soleField "HeapGames" "heaps") ∈ lw_all := lw_g (lw_at lw_m1 15 rfl) rfl
theorem q52 : (Jvm.Cond.lays "HeapGames" "HeapGames" "found" "I") ∈ lw_all := lw_g (lw_at lw_m1 16 rfl) rfl
theorem q53 : (Jvm.Cond.soleField "HeapGames" "found") ∈ lw_all := lw_g (lw_at lw_m1 17 rfl) rfl
theorem q54 : (Jvm.Cond.laysFinal "HeapGames" "HeapGames" "moves" "[I") ∈ lw_all := lw_g (lw_at lw_m1 18 rfl) rfl
theorem q55 : (Jvm.Cond.soleField "HeapGames" "moves") ∈ lw_all := lw_g (lw_at lw_m1 19 rfl) rfl
theorem q56 : (Jvm.Cond.superclass "HeapGames" "java/lang/Object") ∈ lw_all := lw_g (lw_at lw_m1 20 rfl) rfl
theorem q59 : (Jvm.Cond.instanceMethod ({ cls := "HeapGames", name := "heap", desc := "(II)I" } : Jvm.MethodName)) ∈ lw_all := lw_g (lw_at lw_m1 23 rfl) rfl
theorem q60 : (Jvm.Cond.selects "HeapGames" ({ cls := "HeapGames", name := "heap", desc := "(II)I" } : Jvm.MethodName) ({ cls := "HeapGames", name := "heap", desc := "(II)I" } : Jvm.MethodName)) ∈ lw_all := lw_g (lw_at lw_m1 24 rfl) rfl
theorem q61 : (Jvm.Cond.code ({ cls := "HeapGames", name := "heap", desc := "(II)I" } : Jvm.MethodName) prog_1_method_4_code (4 : Nat) (Option.some Jvm.ClassFile.FieldType.int)) ∈ lw_all := lw_g (lw_at lw_m1 25 rfl) rfl
theorem q62 : (Jvm.Cond.methodLink "HeapGames" (20 : Nat) ({ cls := "HeapGames", name := "badHeap", desc := "(I)Z" } : Jvm.MethodName)) ∈ lw_all := lw_g (lw_at lw_m1 26 rfl) rfl
theorem q63 : (Jvm.Cond.privateMethod ({ cls := "HeapGames", name := "badHeap", desc := "(I)Z" } : Jvm.MethodName)) ∈ lw_tbl := lw_at lw_m1 27 rfl
theorem q64 : (Jvm.Cond.instanceMethod ({ cls := "HeapGames", name := "badHeap", desc := "(I)Z" } : Jvm.MethodName)) ∈ lw_all := lw_g (lw_at lw_m1 28 rfl) rfl
theorem q65 : (Jvm.Cond.code ({ cls := "HeapGames", name := "badHeap", desc := "(I)Z" } : Jvm.MethodName) prog_1_method_3_code (2 : Nat) (Option.some Jvm.ClassFile.FieldType.boolean)) ∈ lw_all := lw_g (lw_at lw_m1 29 rfl) rfl
theorem q67 : (Jvm.Cond.instanceMethod ({ cls := "HeapGames", name := "has", desc := "(I)I" } : Jvm.MethodName)) ∈ lw_all := lw_g (lw_at lw_m1 31 rfl) rfl
theorem q68 : (Jvm.Cond.selects "HeapGames" ({ cls := "HeapGames", name := "has", desc := "(I)I" } : Jvm.MethodName) ({ cls := "HeapGames", name := "has", desc := "(I)I" } : Jvm.MethodName)) ∈ lw_all := lw_g (lw_at lw_m1 32 rfl) rfl
theorem q69 : (Jvm.Cond.code ({ cls := "HeapGames", name := "has", desc := "(I)I" } : Jvm.MethodName) prog_1_method_5_code (2 : Nat) (Option.some Jvm.ClassFile.FieldType.int)) ∈ lw_all := lw_g (lw_at lw_m1 33 rfl) rfl
theorem q71 : (Jvm.Cond.instanceMethod ({ cls := "HeapGames", name := "won", desc := "(I)I" } : Jvm.MethodName)) ∈ lw_all := lw_g (lw_at lw_m1 35 rfl) rfl
theorem q72 : (Jvm.Cond.selects "HeapGames" ({ cls := "HeapGames", name := "won", desc := "(I)I" } : Jvm.MethodName) ({ cls := "HeapGames", name := "won", desc := "(I)I" } : Jvm.MethodName)) ∈ lw_all := lw_g (lw_at lw_m1 36 rfl) rfl
theorem q73 : (Jvm.Cond.code ({ cls := "HeapGames", name := "won", desc := "(I)I" } : Jvm.MethodName) prog_1_method_14_code (3 : Nat) (Option.some Jvm.ClassFile.FieldType.int)) ∈ lw_all := lw_g (lw_at lw_m1 37 rfl) rfl
theorem q74 : (Jvm.Cond.methodLink "HeapGames" (42 : Nat) ({ cls := "HeapGames", name := "badGame", desc := "(I)Z" } : Jvm.MethodName)) ∈ lw_all := lw_g (lw_at lw_m1 38 rfl) rfl
theorem q75 : (Jvm.Cond.privateMethod ({ cls := "HeapGames", name := "badGame", desc := "(I)Z" } : Jvm.MethodName)) ∈ lw_tbl := lw_at lw_m1 39 rfl
theorem q76 : (Jvm.Cond.instanceMethod ({ cls := "HeapGames", name := "badGame", desc := "(I)Z" } : Jvm.MethodName)) ∈ lw_all := lw_g (lw_at lw_m1 40 rfl) rfl
theorem q77 : (Jvm.Cond.code ({ cls := "HeapGames", name := "badGame", desc := "(I)Z" } : Jvm.MethodName) prog_1_method_2_code (2 : Nat) (Option.some Jvm.ClassFile.FieldType.boolean)) ∈ lw_all := lw_g (lw_at lw_m1 41 rfl) rfl
theorem q78 : (Jvm.Cond.methodLink "HeapGames" (45 : Nat) ({ cls := "HeapGames", name := "single", desc := "()I" } : Jvm.MethodName)) ∈ lw_all := lw_g (lw_at lw_m1 42 rfl) rfl
theorem q79 : (Jvm.Cond.privateMethod ({ cls := "HeapGames", name := "single", desc := "()I" } : Jvm.MethodName)) ∈ lw_tbl := lw_at lw_m1 43 rfl
theorem q80 : (Jvm.Cond.instanceMethod ({ cls := "HeapGames", name := "single", desc := "()I" } : Jvm.MethodName)) ∈ lw_all := lw_g (lw_at lw_m1 44 rfl) rfl
theorem q81 : (Jvm.Cond.code ({ cls := "HeapGames", name := "single", desc := "()I" } : Jvm.MethodName) prog_1_method_12_code (2 : Nat) (Option.some Jvm.ClassFile.FieldType.int)) ∈ lw_all := lw_g (lw_at lw_m1 45 rfl) rfl
theorem q82 : (Jvm.Cond.methodLink "HeapGames" (49 : Nat) ({ cls := "HeapGames", name := "wonWith", desc := "(II)Z" } : Jvm.MethodName)) ∈ lw_all := lw_g (lw_at lw_m1 46 rfl) rfl
theorem q83 : (Jvm.Cond.privateMethod ({ cls := "HeapGames", name := "wonWith", desc := "(II)Z" } : Jvm.MethodName)) ∈ lw_tbl := lw_at lw_m1 47 rfl
theorem q84 : (Jvm.Cond.instanceMethod ({ cls := "HeapGames", name := "wonWith", desc := "(II)Z" } : Jvm.MethodName)) ∈ lw_all := lw_g (lw_at lw_m1 48 rfl) rfl
theorem q85 : (Jvm.Cond.code ({ cls := "HeapGames", name := "wonWith", desc := "(II)Z" } : Jvm.MethodName) prog_1_method_13_code (4 : Nat) (Option.some Jvm.ClassFile.FieldType.boolean)) ∈ lw_all := lw_g (lw_at lw_m1 49 rfl) rfl
theorem q86 : (Jvm.Cond.methodLink "HeapGames" (39 : Nat) ({ cls := "HeapGames", name := "leastPart", desc := "(I)I" } : Jvm.MethodName)) ∈ lw_all := lw_g (lw_at lw_m1 50 rfl) rfl
theorem q87 : (Jvm.Cond.privateMethod ({ cls := "HeapGames", name := "leastPart", desc := "(I)I" } : Jvm.MethodName)) ∈ lw_tbl := lw_at lw_m1 51 rfl
theorem q88 : (Jvm.Cond.instanceMethod ({ cls := "HeapGames", name := "leastPart", desc := "(I)I" } : Jvm.MethodName)) ∈ lw_all := lw_g (lw_at lw_m1 52 rfl) rfl
theorem q89 : (Jvm.Cond.code ({ cls := "HeapGames", name := "leastPart", desc := "(I)I" } : Jvm.MethodName) prog_1_method_9_code (7 : Nat) (Option.some Jvm.ClassFile.FieldType.int)) ∈ lw_all := lw_g (lw_at lw_m1 53 rfl) rfl
theorem q90 : (Jvm.Cond.methodLink "HeapGames" (52 : Nat) ({ cls := "HeapGames", name := "isWon", desc := "(IIII)Z" } : Jvm.MethodName)) ∈ lw_all := lw_g (lw_at lw_m1 54 rfl) rfl
theorem q91 : (Jvm.Cond.privateMethod ({ cls := "HeapGames", name := "isWon", desc := "(IIII)Z" } : Jvm.MethodName)) ∈ lw_tbl := lw_at lw_m1 55 rfl
theorem q92 : (Jvm.Cond.instanceMethod ({ cls := "HeapGames", name := "isWon", desc := "(IIII)Z" } : Jvm.MethodName)) ∈ lw_all := lw_g (lw_at lw_m1 56 rfl) rfl
theorem q93 : (Jvm.Cond.code ({ cls := "HeapGames", name := "isWon", desc := "(IIII)Z" } : Jvm.MethodName) prog_1_method_11_code (5 : Nat) (Option.some Jvm.ClassFile.FieldType.boolean)) ∈ lw_all := lw_g (lw_at lw_m1 57 rfl) rfl
theorem q94 : (Jvm.Cond.methodLink "HeapGames" (28 : Nat) ({ cls := "HeapGames", name := "wonLast", desc := "(III)Z" } : Jvm.MethodName)) ∈ lw_all := lw_g (lw_at lw_m1 58 rfl) rfl
theorem q95 : (Jvm.Cond.privateMethod ({ cls := "HeapGames", name := "wonLast", desc := "(III)Z" } : Jvm.MethodName)) ∈ lw_tbl := lw_at lw_m1 59 rfl
theorem q96 : (Jvm.Cond.instanceMethod ({ cls := "HeapGames", name := "wonLast", desc := "(III)Z" } : Jvm.MethodName)) ∈ lw_all := lw_g (lw_at lw_m1 60 rfl) rfl
theorem q97 : (Jvm.Cond.code ({ cls := "HeapGames", name := "wonLast", desc := "(III)Z" } : Jvm.MethodName) prog_1_method_10_code (5 : Nat) (Option.some Jvm.ClassFile.FieldType.boolean)) ∈ lw_all := lw_g (lw_at lw_m1 61 rfl) rfl
theorem q98 : (Jvm.Cond.methodLink "HeapGames" (32 : Nat) ({ cls := "HeapGames", name := "wonGolden", desc := "(II)Z" } : Jvm.MethodName)) ∈ lw_all := lw_g (lw_at lw_m1 62 rfl) rfl
theorem q99 : (Jvm.Cond.privateMethod ({ cls := "HeapGames", name := "wonGolden", desc := "(II)Z" } : Jvm.MethodName)) ∈ lw_tbl := lw_at lw_m1 63 rfl
theorem q100 : (Jvm.Cond.instanceMethod ({ cls := "HeapGames", name := "wonGolden", desc := "(II)Z" } : Jvm.MethodName)) ∈ lw_all := lw_g (lw_at lw_m1 64 rfl) rfl
theorem q101 : (Jvm.Cond.code ({ cls := "HeapGames", name := "wonGolden", desc := "(II)Z" } : Jvm.MethodName) prog_1_method_7_code (5 : Nat) (Option.some Jvm.ClassFile.FieldType.boolean)) ∈ lw_all := lw_g (lw_at lw_m1 65 rfl) rfl
theorem q102 : (Jvm.Cond.methodLink "HeapGames" (24 : Nat) ({ cls := "HeapGames", name := "rootOf", desc := "(I)I" } : Jvm.MethodName)) ∈ lw_all := lw_g (lw_at lw_m1 66 rfl) rfl
theorem q103 : (Jvm.Cond.privateMethod ({ cls := "HeapGames", name := "rootOf", desc := "(I)I" } : Jvm.MethodName)) ∈ lw_tbl := lw_at lw_m1 67 rfl
theorem q104 : (Jvm.Cond.instanceMethod ({ cls := "HeapGames", name := "rootOf", desc := "(I)I" } : Jvm.MethodName)) ∈ lw_all := lw_g (lw_at lw_m1 68 rfl) rfl
theorem q105 : (Jvm.Cond.code ({ cls := "HeapGames", name := "rootOf", desc := "(I)I" } : Jvm.MethodName) prog_1_method_6_code (3 : Nat) (Option.some Jvm.ClassFile.FieldType.int)) ∈ lw_all := lw_g (lw_at lw_m1 69 rfl) rfl
theorem q106 : (Jvm.Cond.methodLink "HeapGames" (36 : Nat) ({ cls := "HeapGames", name := "wonRatio", desc := "(II)Z" } : Jvm.MethodName)) ∈ lw_all := lw_g (lw_at lw_m1 70 rfl) rfl
theorem q107 : (Jvm.Cond.privateMethod ({ cls := "HeapGames", name := "wonRatio", desc := "(II)Z" } : Jvm.MethodName)) ∈ lw_tbl := lw_at lw_m1 71 rfl
theorem q108 : (Jvm.Cond.instanceMethod ({ cls := "HeapGames", name := "wonRatio", desc := "(II)Z" } : Jvm.MethodName)) ∈ lw_all := lw_g (lw_at lw_m1 72 rfl) rfl
theorem q109 : (Jvm.Cond.code ({ cls := "HeapGames", name := "wonRatio", desc := "(II)Z" } : Jvm.MethodName) prog_1_method_8_code (5 : Nat) (Option.some Jvm.ClassFile.FieldType.boolean)) ∈ lw_all := lw_g (lw_at lw_m1 73 rfl) rfl
theorem q111 : (Jvm.Cond.instanceMethod ({ cls := "HeapGames", name := "moves", desc := "(I)I" } : Jvm.MethodName)) ∈ lw_all := lw_g (lw_at lw_m1 75 rfl) rfl
theorem q112 : (Jvm.Cond.selects "HeapGames" ({ cls := "HeapGames", name := "moves", desc := "(I)I" } : Jvm.MethodName) ({ cls := "HeapGames", name := "moves", desc := "(I)I" } : Jvm.MethodName)) ∈ lw_all := lw_g (lw_at lw_m1 76 rfl) rfl
theorem q113 : (Jvm.Cond.code ({ cls := "HeapGames", name := "moves", desc := "(I)I" } : Jvm.MethodName) prog_1_method_24_code (2 : Nat) (Option.some Jvm.ClassFile.FieldType.int)) ∈ lw_all := lw_g (lw_at lw_m1 77 rfl) rfl
theorem q114 : (Jvm.Cond.methodLink "HeapGames" (85 : Nat) ({ cls := "HeapGames", name := "findMoves", desc := "(IZ)V" } : Jvm.MethodName)) ∈ lw_all := lw_g (lw_at lw_m1 78 rfl) rfl
theorem q115 : (Jvm.Cond.privateMethod ({ cls := "HeapGames", name := "findMoves", desc := "(IZ)V" } : Jvm.MethodName)) ∈ lw_tbl := lw_at lw_m1 79 rfl
theorem q116 : (Jvm.Cond.instanceMethod ({ cls := "HeapGames", name := "findMoves", desc := "(IZ)V" } : Jvm.MethodName)) ∈ lw_all := lw_g (lw_at lw_m1 80 rfl) rfl
theorem q117 : (Jvm.Cond.code ({ cls := "HeapGames", name := "findMoves", desc := "(IZ)V" } : Jvm.MethodName) prog_1_method_23_code (3 : Nat) (Option.none : Option Jvm.ClassFile.FieldType)) ∈ lw_all := lw_g (lw_at lw_m1 81 rfl) rfl
theorem q118 : (Jvm.Cond.methodLink "HeapGames" (64 : Nat) ({ cls := "HeapGames", name := "downStairs", desc := "(Z)V" } : Jvm.MethodName)) ∈ lw_all := lw_g (lw_at lw_m1 82 rfl) rfl
theorem q119 : (Jvm.Cond.privateMethod ({ cls := "HeapGames", name := "downStairs", desc := "(Z)V" } : Jvm.MethodName)) ∈ lw_tbl := lw_at lw_m1 83 rfl
theorem q120 : (Jvm.Cond.instanceMethod ({ cls := "HeapGames", name := "downStairs", desc := "(Z)V" } : Jvm.MethodName)) ∈ lw_all := lw_g (lw_at lw_m1 84 rfl) rfl
theorem q121 : (Jvm.Cond.code ({ cls := "HeapGames", name := "downStairs", desc := "(Z)V" } : Jvm.MethodName) prog_1_method_19_code (3 : Nat) (Option.none : Option Jvm.ClassFile.FieldType)) ∈ lw_all := lw_g (lw_at lw_m1 85 rfl) rfl
theorem q122 : (Jvm.Cond.methodLink "HeapGames" (60 : Nat) ({ cls := "HeapGames", name := "consider", desc := "(IIIIZ)V" } : Jvm.MethodName)) ∈ lw_all := lw_g (lw_at lw_m1 86 rfl) rfl
theorem q123 : (Jvm.Cond.privateMethod ({ cls := "HeapGames", name := "consider", desc := "(IIIIZ)V" } : Jvm.MethodName)) ∈ lw_tbl := lw_at lw_m1 87 rfl
theorem q124 : (Jvm.Cond.instanceMethod ({ cls := "HeapGames", name := "consider", desc := "(IIIIZ)V" } : Jvm.MethodName)) ∈ lw_all := lw_g (lw_at lw_m1 88 rfl) rfl
theorem q125 : (Jvm.Cond.code ({ cls := "HeapGames", name := "consider", desc := "(IIIIZ)V" } : Jvm.MethodName) prog_1_method_16_code (6 : Nat) (Option.none : Option Jvm.ClassFile.FieldType)) ∈ lw_all := lw_g (lw_at lw_m1 89 rfl) rfl
theorem q126 : (Jvm.Cond.methodLink "HeapGames" (56 : Nat) ({ cls := "HeapGames", name := "keep", desc := "(I)V" } : Jvm.MethodName)) ∈ lw_all := lw_g (lw_at lw_m1 90 rfl) rfl
theorem q127 : (Jvm.Cond.privateMethod ({ cls := "HeapGames", name := "keep", desc := "(I)V" } : Jvm.MethodName)) ∈ lw_tbl := lw_at lw_m1 91 rfl
theorem q128 : (Jvm.Cond.instanceMethod ({ cls := "HeapGames", name := "keep", desc := "(I)V" } : Jvm.MethodName)) ∈ lw_all := lw_g (lw_at lw_m1 92 rfl) rfl
theorem q129 : (Jvm.Cond.code ({ cls := "HeapGames", name := "keep", desc := "(I)V" } : Jvm.MethodName) prog_1_method_15_code (4 : Nat) (Option.none : Option Jvm.ClassFile.FieldType)) ∈ lw_all := lw_g (lw_at lw_m1 93 rfl) rfl
theorem q130 : (Jvm.Cond.methodLink "HeapGames" (68 : Nat) ({ cls := "HeapGames", name := "multiples", desc := "(Z)V" } : Jvm.MethodName)) ∈ lw_all := lw_g (lw_at lw_m1 94 rfl) rfl
theorem q131 : (Jvm.Cond.privateMethod ({ cls := "HeapGames", name := "multiples", desc := "(Z)V" } : Jvm.MethodName)) ∈ lw_tbl := lw_at lw_m1 95 rfl
theorem q132 : (Jvm.Cond.instanceMethod ({ cls := "HeapGames", name := "multiples", desc := "(Z)V" } : Jvm.MethodName)) ∈ lw_all := lw_g (lw_at lw_m1 96 rfl) rfl
theorem q133 : (Jvm.Cond.code ({ cls := "HeapGames", name := "multiples", desc := "(Z)V" } : Jvm.MethodName) prog_1_method_21_code (5 : Nat) (Option.none : Option Jvm.ClassFile.FieldType)) ∈ lw_all := lw_g (lw_at lw_m1 97 rfl) rfl
theorem q134 : (Jvm.Cond.methodLink "HeapGames" (71 : Nat) ({ cls := "HeapGames", name := "fromSingle", desc := "(Z)V" } : Jvm.MethodName)) ∈ lw_all := lw_g (lw_at lw_m1 98 rfl) rfl
theorem q135 : (Jvm.Cond.privateMethod ({ cls := "HeapGames", name := "fromSingle", desc := "(Z)V" } : Jvm.MethodName)) ∈ lw_tbl := lw_at lw_m1 99 rfl
theorem q136 : (Jvm.Cond.instanceMethod ({ cls := "HeapGames", name := "fromSingle", desc := "(Z)V" } : Jvm.MethodName)) ∈ lw_all := lw_g (lw_at lw_m1 100 rfl) rfl
theorem q137 : (Jvm.Cond.code ({ cls := "HeapGames", name := "fromSingle", desc := "(Z)V" } : Jvm.MethodName) prog_1_method_22_code (5 : Nat) (Option.none : Option Jvm.ClassFile.FieldType)) ∈ lw_all := lw_g (lw_at lw_m1 101 rfl) rfl
theorem q138 : (Jvm.Cond.methodLink "HeapGames" (74 : Nat) ({ cls := "HeapGames", name := "fromOne", desc := "(IIZ)V" } : Jvm.MethodName)) ∈ lw_all := lw_g (lw_at lw_m1 102 rfl) rfl
theorem q139 : (Jvm.Cond.privateMethod ({ cls := "HeapGames", name := "fromOne", desc := "(IIZ)V" } : Jvm.MethodName)) ∈ lw_tbl := lw_at lw_m1 103 rfl
theorem q140 : (Jvm.Cond.instanceMethod ({ cls := "HeapGames", name := "fromOne", desc := "(IIZ)V" } : Jvm.MethodName)) ∈ lw_all := lw_g (lw_at lw_m1 104 rfl) rfl
theorem q141 : (Jvm.Cond.code ({ cls := "HeapGames", name := "fromOne", desc := "(IIZ)V" } : Jvm.MethodName) prog_1_method_17_code (8 : Nat) (Option.none : Option Jvm.ClassFile.FieldType)) ∈ lw_all := lw_g (lw_at lw_m1 105 rfl) rfl
theorem q142 : (Jvm.Cond.methodLink "HeapGames" (78 : Nat) ({ cls := "HeapGames", name := "fromTwo", desc := "(IZ)V" } : Jvm.MethodName)) ∈ lw_all := lw_g (lw_at lw_m1 106 rfl) rfl
theorem q143 : (Jvm.Cond.privateMethod ({ cls := "HeapGames", name := "fromTwo", desc := "(IZ)V" } : Jvm.MethodName)) ∈ lw_tbl := lw_at lw_m1 107 rfl
theorem q144 : (Jvm.Cond.instanceMethod ({ cls := "HeapGames", name := "fromTwo", desc := "(IZ)V" } : Jvm.MethodName)) ∈ lw_all := lw_g (lw_at lw_m1 108 rfl) rfl
theorem q145 : (Jvm.Cond.code ({ cls := "HeapGames", name := "fromTwo", desc := "(IZ)V" } : Jvm.MethodName) prog_1_method_18_code (11 : Nat) (Option.none : Option Jvm.ClassFile.FieldType)) ∈ lw_all := lw_g (lw_at lw_m1 109 rfl) rfl
theorem q146 : (Jvm.Cond.methodLink "HeapGames" (82 : Nat) ({ cls := "HeapGames", name := "equallyMany", desc := "(Z)V" } : Jvm.MethodName)) ∈ lw_all := lw_g (lw_at lw_m1 110 rfl) rfl
theorem q147 : (Jvm.Cond.privateMethod ({ cls := "HeapGames", name := "equallyMany", desc := "(Z)V" } : Jvm.MethodName)) ∈ lw_tbl := lw_at lw_m1 111 rfl
theorem q148 : (Jvm.Cond.instanceMethod ({ cls := "HeapGames", name := "equallyMany", desc := "(Z)V" } : Jvm.MethodName)) ∈ lw_all := lw_g (lw_at lw_m1 112 rfl) rfl
theorem q149 : (Jvm.Cond.code ({ cls := "HeapGames", name := "equallyMany", desc := "(Z)V" } : Jvm.MethodName) prog_1_method_20_code (3 : Nat) (Option.none : Option Jvm.ClassFile.FieldType)) ∈ lw_all := lw_g (lw_at lw_m1 113 rfl) rfl
theorem q151 : (Jvm.Cond.instanceMethod ({ cls := "HeapGames", name := "winning", desc := "(I)I" } : Jvm.MethodName)) ∈ lw_all := lw_g (lw_at lw_m1 115 rfl) rfl
theorem q152 : (Jvm.Cond.selects "HeapGames" ({ cls := "HeapGames", name := "winning", desc := "(I)I" } : Jvm.MethodName) ({ cls := "HeapGames", name := "winning", desc := "(I)I" } : Jvm.MethodName)) ∈ lw_all := lw_g (lw_at lw_m1 116 rfl) rfl
theorem q153 : (Jvm.Cond.code ({ cls := "HeapGames", name := "winning", desc := "(I)I" } : Jvm.MethodName) prog_1_method_25_code (2 : Nat) (Option.some Jvm.ClassFile.FieldType.int)) ∈ lw_all := lw_g (lw_at lw_m1 117 rfl) rfl
theorem q155 : (Jvm.Cond.instanceMethod ({ cls := "HeapGames", name := "winningMove", desc := "(II)I" } : Jvm.MethodName)) ∈ lw_all := lw_g (lw_at lw_m1 119 rfl) rfl
theorem q156 : (Jvm.Cond.selects "HeapGames" ({ cls := "HeapGames", name := "winningMove", desc := "(II)I" } : Jvm.MethodName) ({ cls := "HeapGames", name := "winningMove", desc := "(II)I" } : Jvm.MethodName)) ∈ lw_all := lw_g (lw_at lw_m1 120 rfl) rfl
theorem q157 : (Jvm.Cond.code ({ cls := "HeapGames", name := "winningMove", desc := "(II)I" } : Jvm.MethodName) prog_1_method_26_code (3 : Nat) (Option.some Jvm.ClassFile.FieldType.int)) ∈ lw_all := lw_g (lw_at lw_m1 121 rfl) rfl
theorem q159 : (Jvm.Cond.instanceMethod ({ cls := "HeapGames", name := "value", desc := "(I)I" } : Jvm.MethodName)) ∈ lw_all := lw_g (lw_at lw_m1 123 rfl) rfl
theorem q160 : (Jvm.Cond.selects "HeapGames" ({ cls := "HeapGames", name := "value", desc := "(I)I" } : Jvm.MethodName) ({ cls := "HeapGames", name := "value", desc := "(I)I" } : Jvm.MethodName)) ∈ lw_all := lw_g (lw_at lw_m1 124 rfl) rfl
theorem q161 : (Jvm.Cond.code ({ cls := "HeapGames", name := "value", desc := "(I)I" } : Jvm.MethodName) prog_1_method_27_code (3 : Nat) (Option.some Jvm.ClassFile.FieldType.int)) ∈ lw_all := lw_g (lw_at lw_m1 125 rfl) rfl
theorem q163 : (Jvm.Cond.instanceMethod ({ cls := "HeapGames", name := "play", desc := "(II)I" } : Jvm.MethodName)) ∈ lw_all := lw_g (lw_at lw_m1 127 rfl) rfl
theorem q164 : (Jvm.Cond.selects "HeapGames" ({ cls := "HeapGames", name := "play", desc := "(II)I" } : Jvm.MethodName) ({ cls := "HeapGames", name := "play", desc := "(II)I" } : Jvm.MethodName)) ∈ lw_all := lw_g (lw_at lw_m1 128 rfl) rfl
theorem q165 : (Jvm.Cond.code ({ cls := "HeapGames", name := "play", desc := "(II)I" } : Jvm.MethodName) prog_1_method_28_code (4 : Nat) (Option.some Jvm.ClassFile.FieldType.int)) ∈ lw_all := lw_g (lw_at lw_m1 129 rfl) rfl
theorem q166 : (Jvm.Cond.methodLink "HeapGames" (88 : Nat) ({ cls := "HeapGames", name := "won", desc := "(I)I" } : Jvm.MethodName)) ∈ lw_all := lw_g (lw_at lw_m1 130 rfl) rfl
theorem in_X0 : ∀ w ∈ wsX00, w ∈ lw_all := lw_in wsX00 [50, 52, 54] (by decide +kernel) (by decide +kernel)
end
section
set_option maxRecDepth 100000
/-! HeapGamesModel -/
def RX1 : String := "HeapGamesModel"
def TX1 : u_T := fun k => match k with
  | 0 => ("HeapGamesModel", "heaps", "[I", false)
  | 1 => ("HeapGamesModel", "count", "I", false)
  | 2 => ("HeapGamesModel", "xs", "[I", false)
  | 3 => ("HeapGamesModel", "ys", "[I", false)
  | 4 => ("HeapGamesModel", "zs", "[I", false)
  | 5 => ("HeapGamesModel", "win", "[Z", false)
  | 6 => ("HeapGamesModel", "values", "[I", false)
  | 7 => ("HeapGamesModel", "taken", "[Z", false)
  | 8 => ("HeapGamesModel", "limited", "[Z", false)
  | 9 => ("HeapGamesModel", "found", "I", false)
  | _ => ("HeapGamesModel", "numbers", "[I", false)
def tyX1 : Nat → FieldType := fun k => match k with
  | 0 => .array .int
  | 1 => .int
  | 2 => .array .int
  | 3 => .array .int
  | 4 => .array .int
  | 5 => .array .boolean
  | 6 => .array .int
  | 7 => .array .boolean
  | 8 => .array .boolean
  | 9 => .int
  | _ => .array .int
abbrev wsX10 : List Cond := u_ws RX1 TX1 11
theorem nmX1 : ∀ a, a < 11 → ∀ b, b < 11 → a ≠ b → (TX1 a).2.1 ≠ (TX1 b).2.1 := by decide +kernel
theorem tyX1_ok : ∀ k, k < 11 → parseFieldDescriptor (TX1 k).2.2.1 = some (tyX1 k) := by decide +kernel
abbrev cX1_init : ByteArray := prog_3_method_1_code
def yX1_init : MethodName := ⟨RX1, "<init>", "()V"⟩
theorem dX1_init_0 : decode cX1_init 0 = .ok (.aload_n 0, 1) := by decide +kernel
theorem dX1_init_1 : decode cX1_init 1 = .ok (.invokespecial 1, 3) := by decide +kernel
theorem dX1_init_4 : decode cX1_init 4 = .ok (.aload_n 0, 1) := by decide +kernel
theorem dX1_init_5 : decode cX1_init 5 = .ok (.iconst 3, 1) := by decide +kernel
theorem dX1_init_6 : decode cX1_init 6 = .ok (.newarray .int, 2) := by decide +kernel
theorem dX1_init_8 : decode cX1_init 8 = .ok (.putfield 7, 3) := by decide +kernel
theorem dX1_init_11 : decode cX1_init 11 = .ok (.aload_n 0, 1) := by decide +kernel
theorem dX1_init_12 : decode cX1_init 12 = .ok (.sipush 800, 3) := by decide +kernel
theorem dX1_init_15 : decode cX1_init 15 = .ok (.newarray .int, 2) := by decide +kernel
theorem dX1_init_17 : decode cX1_init 17 = .ok (.putfield 13, 3) := by decide +kernel
theorem dX1_init_20 : decode cX1_init 20 = .ok (.aload_n 0, 1) := by decide +kernel
theorem dX1_init_21 : decode cX1_init 21 = .ok (.sipush 800, 3) := by decide +kernel
theorem dX1_init_24 : decode cX1_init 24 = .ok (.newarray .int, 2) := by decide +kernel
theorem dX1_init_26 : decode cX1_init 26 = .ok (.putfield 16, 3) := by decide +kernel
theorem dX1_init_29 : decode cX1_init 29 = .ok (.aload_n 0, 1) := by decide +kernel
theorem dX1_init_30 : decode cX1_init 30 = .ok (.sipush 800, 3) := by decide +kernel
theorem dX1_init_33 : decode cX1_init 33 = .ok (.newarray .int, 2) := by decide +kernel
theorem dX1_init_35 : decode cX1_init 35 = .ok (.putfield 19, 3) := by decide +kernel
theorem dX1_init_38 : decode cX1_init 38 = .ok (.aload_n 0, 1) := by decide +kernel
theorem dX1_init_39 : decode cX1_init 39 = .ok (.sipush 22816, 3) := by decide +kernel
theorem dX1_init_42 : decode cX1_init 42 = .ok (.newarray .boolean, 2) := by decide +kernel
theorem dX1_init_44 : decode cX1_init 44 = .ok (.putfield 22, 3) := by decide +kernel
theorem dX1_init_47 : decode cX1_init 47 = .ok (.aload_n 0, 1) := by decide +kernel
theorem dX1_init_48 : decode cX1_init 48 = .ok (.sipush 22816, 3) := by decide +kernel
theorem dX1_init_51 : decode cX1_init 51 = .ok (.newarray .int, 2) := by decide +kernel
theorem dX1_init_53 : decode cX1_init 53 = .ok (.putfield 26, 3) := by decide +kernel
theorem dX1_init_56 : decode cX1_init 56 = .ok (.aload_n 0, 1) := by decide +kernel
theorem dX1_init_57 : decode cX1_init 57 = .ok (.bipush 64, 2) := by decide +kernel
theorem dX1_init_59 : decode cX1_init 59 = .ok (.newarray .boolean, 2) := by decide +kernel
theorem dX1_init_61 : decode cX1_init 61 = .ok (.putfield 29, 3) := by decide +kernel
theorem dX1_init_64 : decode cX1_init 64 = .ok (.aload_n 0, 1) := by decide +kernel
theorem dX1_init_65 : decode cX1_init 65 = .ok (.sipush 3721, 3) := by decide +kernel
theorem dX1_init_68 : decode cX1_init 68 = .ok (.newarray .boolean, 2) := by decide +kernel
theorem dX1_init_70 : decode cX1_init 70 = .ok (.putfield 32, 3) := by decide +kernel
theorem dX1_init_73 : decode cX1_init 73 = .ok (.aload_n 0, 1) := by decide +kernel
theorem dX1_init_74 : decode cX1_init 74 = .ok (.sipush 800, 3) := by decide +kernel
theorem dX1_init_77 : decode cX1_init 77 = .ok (.newarray .int, 2) := by decide +kernel
theorem dX1_init_79 : decode cX1_init 79 = .ok (.putfield 35, 3) := by decide +kernel
theorem dX1_init_82 : decode cX1_init 82 = .ok (.return_, 1) := by decide +kernel
abbrev cX1_heap : ByteArray := prog_3_method_2_code
def yX1_heap : MethodName := ⟨RX1, "heap", "(II)I"⟩
theorem dX1_heap_0 : decode cX1_heap 0 = .ok (.iload_n 1, 1) := by decide +kernel
theorem dX1_heap_1 : decode cX1_heap 1 = .ok (.ifCond .lt 18, 3) := by decide +kernel
theorem dX1_heap_4 : decode cX1_heap 4 = .ok (.iload_n 1, 1) := by decide +kernel
theorem dX1_heap_5 : decode cX1_heap 5 = .ok (.iconst 2, 1) := by decide +kernel
theorem dX1_heap_6 : decode cX1_heap 6 = .ok (.if_icmp .gt 13, 3) := by decide +kernel
theorem dX1_heap_9 : decode cX1_heap 9 = .ok (.iload_n 2, 1) := by decide +kernel
theorem dX1_heap_10 : decode cX1_heap 10 = .ok (.ifCond .lt 9, 3) := by decide +kernel
theorem dX1_heap_13 : decode cX1_heap 13 = .ok (.iload_n 2, 1) := by decide +kernel
theorem dX1_heap_14 : decode cX1_heap 14 = .ok (.bipush 15, 2) := by decide +kernel
theorem dX1_heap_16 : decode cX1_heap 16 = .ok (.if_icmp .le 5, 3) := by decide +kernel
theorem dX1_heap_19 : decode cX1_heap 19 = .ok (.iconst (-1), 1) := by decide +kernel
theorem dX1_heap_20 : decode cX1_heap 20 = .ok (.ireturn, 1) := by decide +kernel
theorem dX1_heap_21 : decode cX1_heap 21 = .ok (.aload_n 0, 1) := by decide +kernel
theorem dX1_heap_22 : decode cX1_heap 22 = .ok (.getfield 7, 3) := by decide +kernel
theorem dX1_heap_25 : decode cX1_heap 25 = .ok (.iload_n 1, 1) := by decide +kernel
theorem dX1_heap_26 : decode cX1_heap 26 = .ok (.iaload, 1) := by decide +kernel
theorem dX1_heap_27 : decode cX1_heap 27 = .ok (.istore_n 3, 1) := by decide +kernel
theorem dX1_heap_28 : decode cX1_heap 28 = .ok (.aload_n 0, 1) := by decide +kernel
theorem dX1_heap_29 : decode cX1_heap 29 = .ok (.getfield 7, 3) := by decide +kernel
theorem dX1_heap_32 : decode cX1_heap 32 = .ok (.iload_n 1, 1) := by decide +kernel
theorem dX1_heap_33 : decode cX1_heap 33 = .ok (.iload_n 2, 1) := by decide +kernel
theorem dX1_heap_34 : decode cX1_heap 34 = .ok (.iastore, 1) := by decide +kernel
theorem dX1_heap_35 : decode cX1_heap 35 = .ok (.iload_n 3, 1) := by decide +kernel
theorem dX1_heap_36 : decode cX1_heap 36 = .ok (.ireturn, 1) := by decide +kernel
abbrev cX1_has : ByteArray := prog_3_method_3_code
def yX1_has : MethodName := ⟨RX1, "has", "(I)I"⟩
theorem dX1_has_0 : decode cX1_has 0 = .ok (.iload_n 1, 1) := by decide +kernel
theorem dX1_has_1 : decode cX1_has 1 = .ok (.ifCond .lt 8, 3) := by decide +kernel
theorem dX1_has_4 : decode cX1_has 4 = .ok (.iload_n 1, 1) := by decide +kernel
theorem dX1_has_5 : decode cX1_has 5 = .ok (.iconst 2, 1) := by decide +kernel
theorem dX1_has_6 : decode cX1_has 6 = .ok (.if_icmp .le 7, 3) := by decide +kernel
theorem dX1_has_9 : decode cX1_has 9 = .ok (.iconst (-1), 1) := by decide +kernel
theorem dX1_has_10 : decode cX1_has 10 = .ok (.goto 9, 3) := by decide +kernel
theorem dX1_has_13 : decode cX1_has 13 = .ok (.aload_n 0, 1) := by decide +kernel
theorem dX1_has_14 : decode cX1_has 14 = .ok (.getfield 7, 3) := by decide +kernel
theorem dX1_has_17 : decode cX1_has 17 = .ok (.iload_n 1, 1) := by decide +kernel
theorem dX1_has_18 : decode cX1_has 18 = .ok (.iaload, 1) := by decide +kernel
theorem dX1_has_19 : decode cX1_has 19 = .ok (.ireturn, 1) := by decide +kernel
abbrev cX1_won : ByteArray := prog_3_method_21_code
def yX1_won : MethodName := ⟨RX1, "won", "(I)I"⟩
theorem dX1_won_0 : decode cX1_won 0 = .ok (.aload_n 0, 1) := by decide +kernel
theorem dX1_won_1 : decode cX1_won 1 = .ok (.iload_n 1, 1) := by decide +kernel
theorem dX1_won_2 : decode cX1_won 2 = .ok (.invokevirtual 97, 3) := by decide +kernel
theorem dX1_won_5 : decode cX1_won 5 = .ok (.ifCond .eq 5, 3) := by decide +kernel
theorem dX1_won_8 : decode cX1_won 8 = .ok (.iconst (-1), 1) := by decide +kernel
theorem dX1_won_9 : decode cX1_won 9 = .ok (.ireturn, 1) := by decide +kernel
theorem dX1_won_10 : decode cX1_won 10 = .ok (.aload_n 0, 1) := by decide +kernel
theorem dX1_won_11 : decode cX1_won 11 = .ok (.iload_n 1, 1) := by decide +kernel
theorem dX1_won_12 : decode cX1_won 12 = .ok (.invokevirtual 101, 3) := by decide +kernel
theorem dX1_won_15 : decode cX1_won 15 = .ok (.istore_n 2, 1) := by decide +kernel
theorem dX1_won_16 : decode cX1_won 16 = .ok (.aload_n 0, 1) := by decide +kernel
theorem dX1_won_17 : decode cX1_won 17 = .ok (.getfield 80, 3) := by decide +kernel
theorem dX1_won_20 : decode cX1_won 20 = .ok (.ifCond .gt 12, 3) := by decide +kernel
theorem dX1_won_23 : decode cX1_won 23 = .ok (.iload_n 1, 1) := by decide +kernel
theorem dX1_won_24 : decode cX1_won 24 = .ok (.iconst 1, 1) := by decide +kernel
theorem dX1_won_25 : decode cX1_won 25 = .ok (.if_icmp .ne 11, 3) := by decide +kernel
theorem dX1_won_28 : decode cX1_won 28 = .ok (.iload_n 2, 1) := by decide +kernel
theorem dX1_won_29 : decode cX1_won 29 = .ok (.ifCond .ne 7, 3) := by decide +kernel
theorem dX1_won_32 : decode cX1_won 32 = .ok (.iconst 1, 1) := by decide +kernel
theorem dX1_won_33 : decode cX1_won 33 = .ok (.goto 4, 3) := by decide +kernel
theorem dX1_won_36 : decode cX1_won 36 = .ok (.iconst 0, 1) := by decide +kernel
theorem dX1_won_37 : decode cX1_won 37 = .ok (.ireturn, 1) := by decide +kernel
abbrev cX1_noGame : ByteArray := prog_3_method_4_code
def yX1_noGame : MethodName := ⟨RX1, "noGame", "(I)Z"⟩
theorem dX1_noGame_0 : decode cX1_noGame 0 = .ok (.iload_n 1, 1) := by decide +kernel
theorem dX1_noGame_1 : decode cX1_noGame 1 = .ok (.ifCond .lt 9, 3) := by decide +kernel
theorem dX1_noGame_4 : decode cX1_noGame 4 = .ok (.iload_n 1, 1) := by decide +kernel
theorem dX1_noGame_5 : decode cX1_noGame 5 = .ok (.bipush 7, 2) := by decide +kernel
theorem dX1_noGame_7 : decode cX1_noGame 7 = .ok (.if_icmp .le 7, 3) := by decide +kernel
theorem dX1_noGame_10 : decode cX1_noGame 10 = .ok (.iconst 1, 1) := by decide +kernel
theorem dX1_noGame_11 : decode cX1_noGame 11 = .ok (.goto 4, 3) := by decide +kernel
theorem dX1_noGame_14 : decode cX1_noGame 14 = .ok (.iconst 0, 1) := by decide +kernel
theorem dX1_noGame_15 : decode cX1_noGame 15 = .ok (.ireturn, 1) := by decide +kernel
abbrev cX1_search : ByteArray := prog_3_method_19_code
def yX1_search : MethodName := ⟨RX1, "search", "(I)I"⟩
theorem dX1_search_0 : decode cX1_search 0 = .ok (.aload_n 0, 1) := by decide +kernel
theorem dX1_search_1 : decode cX1_search 1 = .ok (.iconst 0, 1) := by decide +kernel
theorem dX1_search_2 : decode cX1_search 2 = .ok (.putfield 80, 3) := by decide +kernel
theorem dX1_search_5 : decode cX1_search 5 = .ok (.iload_n 1, 1) := by decide +kernel
theorem dX1_search_6 : decode cX1_search 6 = .ok (.bipush 6, 2) := by decide +kernel
theorem dX1_search_8 : decode cX1_search 8 = .ok (.if_icmp .ne 87, 3) := by decide +kernel
theorem dX1_search_11 : decode cX1_search 11 = .ok (.aload_n 0, 1) := by decide +kernel
theorem dX1_search_12 : decode cX1_search 12 = .ok (.invokevirtual 83, 3) := by decide +kernel
theorem dX1_search_15 : decode cX1_search 15 = .ok (.aload_n 0, 1) := by decide +kernel
theorem dX1_search_16 : decode cX1_search 16 = .ok (.invokevirtual 86, 3) := by decide +kernel
theorem dX1_search_19 : decode cX1_search 19 = .ok (.istore_n 2, 1) := by decide +kernel
theorem dX1_search_20 : decode cX1_search 20 = .ok (.iconst 1, 1) := by decide +kernel
theorem dX1_search_21 : decode cX1_search 21 = .ok (.istore_n 3, 1) := by decide +kernel
theorem dX1_search_22 : decode cX1_search 22 = .ok (.iload_n 3, 1) := by decide +kernel
theorem dX1_search_23 : decode cX1_search 23 = .ok (.iload_n 2, 1) := by decide +kernel
theorem dX1_search_24 : decode cX1_search 24 = .ok (.if_icmp .gt 50, 3) := by decide +kernel
theorem dX1_search_27 : decode cX1_search 27 = .ok (.iload_n 3, 1) := by decide +kernel
theorem dX1_search_28 : decode cX1_search 28 = .ok (.aload_n 0, 1) := by decide +kernel
theorem dX1_search_29 : decode cX1_search 29 = .ok (.getfield 7, 3) := by decide +kernel
theorem dX1_search_32 : decode cX1_search 32 = .ok (.iconst 2, 1) := by decide +kernel
theorem dX1_search_33 : decode cX1_search 33 = .ok (.iaload, 1) := by decide +kernel
theorem dX1_search_34 : decode cX1_search 34 = .ok (.if_icmp .gt 40, 3) := by decide +kernel
theorem dX1_search_37 : decode cX1_search 37 = .ok (.aload_n 0, 1) := by decide +kernel
theorem dX1_search_38 : decode cX1_search 38 = .ok (.iconst 2, 1) := by decide +kernel
theorem dX1_search_39 : decode cX1_search 39 = .ok (.iload_n 3, 1) := by decide +kernel
theorem dX1_search_40 : decode cX1_search 40 = .ok (.imul, 1) := by decide +kernel
theorem dX1_search_41 : decode cX1_search 41 = .ok (.invokevirtual 76, 3) := by decide +kernel
theorem dX1_search_44 : decode cX1_search 44 = .ok (.istore 4, 2) := by decide +kernel
theorem dX1_search_46 : decode cX1_search 46 = .ok (.aload_n 0, 1) := by decide +kernel
theorem dX1_search_47 : decode cX1_search 47 = .ok (.getfield 32, 3) := by decide +kernel
theorem dX1_search_50 : decode cX1_search 50 = .ok (.bipush 61, 2) := by decide +kernel
theorem dX1_search_52 : decode cX1_search 52 = .ok (.iload_n 2, 1) := by decide +kernel
theorem dX1_search_53 : decode cX1_search 53 = .ok (.iload_n 3, 1) := by decide +kernel
theorem dX1_search_54 : decode cX1_search 54 = .ok (.isub, 1) := by decide +kernel
theorem dX1_search_55 : decode cX1_search 55 = .ok (.imul, 1) := by decide +kernel
theorem dX1_search_56 : decode cX1_search 56 = .ok (.iload 4, 2) := by decide +kernel
theorem dX1_search_58 : decode cX1_search 58 = .ok (.iadd, 1) := by decide +kernel
theorem dX1_search_59 : decode cX1_search 59 = .ok (.baload, 1) := by decide +kernel
theorem dX1_search_60 : decode cX1_search 60 = .ok (.ifCond .ne 8, 3) := by decide +kernel
theorem dX1_search_63 : decode cX1_search 63 = .ok (.aload_n 0, 1) := by decide +kernel
theorem dX1_search_64 : decode cX1_search 64 = .ok (.iload_n 3, 1) := by decide +kernel
theorem dX1_search_65 : decode cX1_search 65 = .ok (.invokevirtual 90, 3) := by decide +kernel
theorem dX1_search_68 : decode cX1_search 68 = .ok (.iinc 3 1, 3) := by decide +kernel
theorem dX1_search_71 : decode cX1_search 71 = .ok (.goto (-49), 3) := by decide +kernel
theorem dX1_search_74 : decode cX1_search 74 = .ok (.iload_n 2, 1) := by decide +kernel
theorem dX1_search_75 : decode cX1_search 75 = .ok (.aload_n 0, 1) := by decide +kernel
theorem dX1_search_76 : decode cX1_search 76 = .ok (.getfield 7, 3) := by decide +kernel
theorem dX1_search_79 : decode cX1_search 79 = .ok (.iconst 2, 1) := by decide +kernel
theorem dX1_search_80 : decode cX1_search 80 = .ok (.iaload, 1) := by decide +kernel
theorem dX1_search_81 : decode cX1_search 81 = .ok (.if_icmp .ge 7, 3) := by decide +kernel
theorem dX1_search_84 : decode cX1_search 84 = .ok (.iload_n 2, 1) := by decide +kernel
theorem dX1_search_85 : decode cX1_search 85 = .ok (.goto 9, 3) := by decide +kernel
theorem dX1_search_88 : decode cX1_search 88 = .ok (.aload_n 0, 1) := by decide +kernel
theorem dX1_search_89 : decode cX1_search 89 = .ok (.getfield 7, 3) := by decide +kernel
theorem dX1_search_92 : decode cX1_search 92 = .ok (.iconst 2, 1) := by decide +kernel
theorem dX1_search_93 : decode cX1_search 93 = .ok (.iaload, 1) := by decide +kernel
theorem dX1_search_94 : decode cX1_search 94 = .ok (.ireturn, 1) := by decide +kernel
theorem dX1_search_95 : decode cX1_search 95 = .ok (.aload_n 0, 1) := by decide +kernel
theorem dX1_search_96 : decode cX1_search 96 = .ok (.iload_n 1, 1) := by decide +kernel
theorem dX1_search_97 : decode cX1_search 97 = .ok (.invokevirtual 94, 3) := by decide +kernel
theorem dX1_search_100 : decode cX1_search 100 = .ok (.aload_n 0, 1) := by decide +kernel
theorem dX1_search_101 : decode cX1_search 101 = .ok (.iload_n 1, 1) := by decide +kernel
theorem dX1_search_102 : decode cX1_search 102 = .ok (.aload_n 0, 1) := by decide +kernel
theorem dX1_search_103 : decode cX1_search 103 = .ok (.getfield 7, 3) := by decide +kernel
theorem dX1_search_106 : decode cX1_search 106 = .ok (.iconst 0, 1) := by decide +kernel
theorem dX1_search_107 : decode cX1_search 107 = .ok (.iaload, 1) := by decide +kernel
theorem dX1_search_108 : decode cX1_search 108 = .ok (.aload_n 0, 1) := by decide +kernel
theorem dX1_search_109 : decode cX1_search 109 = .ok (.getfield 7, 3) := by decide +kernel
theorem dX1_search_112 : decode cX1_search 112 = .ok (.iconst 1, 1) := by decide +kernel
theorem dX1_search_113 : decode cX1_search 113 = .ok (.iaload, 1) := by decide +kernel
theorem dX1_search_114 : decode cX1_search 114 = .ok (.aload_n 0, 1) := by decide +kernel
theorem dX1_search_115 : decode cX1_search 115 = .ok (.getfield 7, 3) := by decide +kernel
theorem dX1_search_118 : decode cX1_search 118 = .ok (.iconst 2, 1) := by decide +kernel
theorem dX1_search_119 : decode cX1_search 119 = .ok (.iaload, 1) := by decide +kernel
theorem dX1_search_120 : decode cX1_search 120 = .ok (.invokevirtual 70, 3) := by decide +kernel
theorem dX1_search_123 : decode cX1_search 123 = .ok (.iconst 0, 1) := by decide +kernel
theorem dX1_search_124 : decode cX1_search 124 = .ok (.istore_n 2, 1) := by decide +kernel
theorem dX1_search_125 : decode cX1_search 125 = .ok (.iload_n 2, 1) := by decide +kernel
theorem dX1_search_126 : decode cX1_search 126 = .ok (.aload_n 0, 1) := by decide +kernel
theorem dX1_search_127 : decode cX1_search 127 = .ok (.getfield 38, 3) := by decide +kernel
theorem dX1_search_130 : decode cX1_search 130 = .ok (.if_icmp .ge 72, 3) := by decide +kernel
theorem dX1_search_133 : decode cX1_search 133 = .ok (.aload_n 0, 1) := by decide +kernel
theorem dX1_search_134 : decode cX1_search 134 = .ok (.aload_n 0, 1) := by decide +kernel
theorem dX1_search_135 : decode cX1_search 135 = .ok (.getfield 13, 3) := by decide +kernel
theorem dX1_search_138 : decode cX1_search 138 = .ok (.iload_n 2, 1) := by decide +kernel
theorem dX1_search_139 : decode cX1_search 139 = .ok (.iaload, 1) := by decide +kernel
theorem dX1_search_140 : decode cX1_search 140 = .ok (.aload_n 0, 1) := by decide +kernel
theorem dX1_search_141 : decode cX1_search 141 = .ok (.getfield 16, 3) := by decide +kernel
theorem dX1_search_144 : decode cX1_search 144 = .ok (.iload_n 2, 1) := by decide +kernel
theorem dX1_search_145 : decode cX1_search 145 = .ok (.iaload, 1) := by decide +kernel
theorem dX1_search_146 : decode cX1_search 146 = .ok (.aload_n 0, 1) := by decide +kernel
theorem dX1_search_147 : decode cX1_search 147 = .ok (.getfield 19, 3) := by decide +kernel
theorem dX1_search_150 : decode cX1_search 150 = .ok (.iload_n 2, 1) := by decide +kernel
theorem dX1_search_151 : decode cX1_search 151 = .ok (.iaload, 1) := by decide +kernel
theorem dX1_search_152 : decode cX1_search 152 = .ok (.invokevirtual 59, 3) := by decide +kernel
theorem dX1_search_155 : decode cX1_search 155 = .ok (.istore_n 3, 1) := by decide +kernel
theorem dX1_search_156 : decode cX1_search 156 = .ok (.aload_n 0, 1) := by decide +kernel
theorem dX1_search_157 : decode cX1_search 157 = .ok (.getfield 22, 3) := by decide +kernel
theorem dX1_search_160 : decode cX1_search 160 = .ok (.iload_n 3, 1) := by decide +kernel
theorem dX1_search_161 : decode cX1_search 161 = .ok (.baload, 1) := by decide +kernel
theorem dX1_search_162 : decode cX1_search 162 = .ok (.ifCond .ne 34, 3) := by decide +kernel
theorem dX1_search_165 : decode cX1_search 165 = .ok (.aload_n 0, 1) := by decide +kernel
theorem dX1_search_166 : decode cX1_search 166 = .ok (.aload_n 0, 1) := by decide +kernel
theorem dX1_search_167 : decode cX1_search 167 = .ok (.getfield 13, 3) := by decide +kernel
theorem dX1_search_170 : decode cX1_search 170 = .ok (.iload_n 2, 1) := by decide +kernel
theorem dX1_search_171 : decode cX1_search 171 = .ok (.iaload, 1) := by decide +kernel
theorem dX1_search_172 : decode cX1_search 172 = .ok (.bipush 32, 2) := by decide +kernel
theorem dX1_search_174 : decode cX1_search 174 = .ok (.aload_n 0, 1) := by decide +kernel
theorem dX1_search_175 : decode cX1_search 175 = .ok (.getfield 16, 3) := by decide +kernel
theorem dX1_search_178 : decode cX1_search 178 = .ok (.iload_n 2, 1) := by decide +kernel
theorem dX1_search_179 : decode cX1_search 179 = .ok (.iaload, 1) := by decide +kernel
theorem dX1_search_180 : decode cX1_search 180 = .ok (.imul, 1) := by decide +kernel
theorem dX1_search_181 : decode cX1_search 181 = .ok (.iadd, 1) := by decide +kernel
theorem dX1_search_182 : decode cX1_search 182 = .ok (.sipush 1024, 3) := by decide +kernel
theorem dX1_search_185 : decode cX1_search 185 = .ok (.aload_n 0, 1) := by decide +kernel
theorem dX1_search_186 : decode cX1_search 186 = .ok (.getfield 19, 3) := by decide +kernel
theorem dX1_search_189 : decode cX1_search 189 = .ok (.iload_n 2, 1) := by decide +kernel
theorem dX1_search_190 : decode cX1_search 190 = .ok (.iaload, 1) := by decide +kernel
theorem dX1_search_191 : decode cX1_search 191 = .ok (.imul, 1) := by decide +kernel
theorem dX1_search_192 : decode cX1_search 192 = .ok (.iadd, 1) := by decide +kernel
theorem dX1_search_193 : decode cX1_search 193 = .ok (.invokevirtual 90, 3) := by decide +kernel
theorem dX1_search_196 : decode cX1_search 196 = .ok (.iinc 2 1, 3) := by decide +kernel
theorem dX1_search_199 : decode cX1_search 199 = .ok (.goto (-74), 3) := by decide +kernel
theorem dX1_search_202 : decode cX1_search 202 = .ok (.aload_n 0, 1) := by decide +kernel
theorem dX1_search_203 : decode cX1_search 203 = .ok (.getfield 38, 3) := by decide +kernel
theorem dX1_search_206 : decode cX1_search 206 = .ok (.ireturn, 1) := by decide +kernel
abbrev cX1_fillLimited : ByteArray := prog_3_method_18_code
def yX1_fillLimited : MethodName := ⟨RX1, "fillLimited", "()V"⟩
theorem dX1_fillLimited_0 : decode cX1_fillLimited 0 = .ok (.iconst 0, 1) := by decide +kernel
theorem dX1_fillLimited_1 : decode cX1_fillLimited 1 = .ok (.istore_n 1, 1) := by decide +kernel
theorem dX1_fillLimited_2 : decode cX1_fillLimited 2 = .ok (.iload_n 1, 1) := by decide +kernel
theorem dX1_fillLimited_3 : decode cX1_fillLimited 3 = .ok (.bipush 60, 2) := by decide +kernel
theorem dX1_fillLimited_5 : decode cX1_fillLimited 5 = .ok (.if_icmp .gt 92, 3) := by decide +kernel
theorem dX1_fillLimited_8 : decode cX1_fillLimited 8 = .ok (.iconst 0, 1) := by decide +kernel
theorem dX1_fillLimited_9 : decode cX1_fillLimited 9 = .ok (.istore_n 2, 1) := by decide +kernel
theorem dX1_fillLimited_10 : decode cX1_fillLimited 10 = .ok (.iload_n 2, 1) := by decide +kernel
theorem dX1_fillLimited_11 : decode cX1_fillLimited 11 = .ok (.bipush 60, 2) := by decide +kernel
theorem dX1_fillLimited_13 : decode cX1_fillLimited 13 = .ok (.if_icmp .gt 78, 3) := by decide +kernel
theorem dX1_fillLimited_16 : decode cX1_fillLimited 16 = .ok (.iconst 0, 1) := by decide +kernel
theorem dX1_fillLimited_17 : decode cX1_fillLimited 17 = .ok (.istore_n 3, 1) := by decide +kernel
theorem dX1_fillLimited_18 : decode cX1_fillLimited 18 = .ok (.iconst 1, 1) := by decide +kernel
theorem dX1_fillLimited_19 : decode cX1_fillLimited 19 = .ok (.istore 4, 2) := by decide +kernel
theorem dX1_fillLimited_21 : decode cX1_fillLimited 21 = .ok (.iload 4, 2) := by decide +kernel
theorem dX1_fillLimited_23 : decode cX1_fillLimited 23 = .ok (.iload_n 1, 1) := by decide +kernel
theorem dX1_fillLimited_24 : decode cX1_fillLimited 24 = .ok (.if_icmp .gt 49, 3) := by decide +kernel
theorem dX1_fillLimited_27 : decode cX1_fillLimited 27 = .ok (.iload 4, 2) := by decide +kernel
theorem dX1_fillLimited_29 : decode cX1_fillLimited 29 = .ok (.iload_n 2, 1) := by decide +kernel
theorem dX1_fillLimited_30 : decode cX1_fillLimited 30 = .ok (.if_icmp .gt 43, 3) := by decide +kernel
theorem dX1_fillLimited_33 : decode cX1_fillLimited 33 = .ok (.iload_n 3, 1) := by decide +kernel
theorem dX1_fillLimited_34 : decode cX1_fillLimited 34 = .ok (.ifCond .ne 27, 3) := by decide +kernel
theorem dX1_fillLimited_37 : decode cX1_fillLimited 37 = .ok (.aload_n 0, 1) := by decide +kernel
theorem dX1_fillLimited_38 : decode cX1_fillLimited 38 = .ok (.getfield 32, 3) := by decide +kernel
theorem dX1_fillLimited_41 : decode cX1_fillLimited 41 = .ok (.bipush 61, 2) := by decide +kernel
theorem dX1_fillLimited_43 : decode cX1_fillLimited 43 = .ok (.iload_n 1, 1) := by decide +kernel
theorem dX1_fillLimited_44 : decode cX1_fillLimited 44 = .ok (.iload 4, 2) := by decide +kernel
theorem dX1_fillLimited_46 : decode cX1_fillLimited 46 = .ok (.isub, 1) := by decide +kernel
theorem dX1_fillLimited_47 : decode cX1_fillLimited 47 = .ok (.imul, 1) := by decide +kernel
theorem dX1_fillLimited_48 : decode cX1_fillLimited 48 = .ok (.aload_n 0, 1) := by decide +kernel
theorem dX1_fillLimited_49 : decode cX1_fillLimited 49 = .ok (.iconst 2, 1) := by decide +kernel
theorem dX1_fillLimited_50 : decode cX1_fillLimited 50 = .ok (.iload 4, 2) := by decide +kernel
theorem dX1_fillLimited_52 : decode cX1_fillLimited 52 = .ok (.imul, 1) := by decide +kernel
theorem dX1_fillLimited_53 : decode cX1_fillLimited 53 = .ok (.invokevirtual 76, 3) := by decide +kernel
theorem dX1_fillLimited_56 : decode cX1_fillLimited 56 = .ok (.iadd, 1) := by decide +kernel
theorem dX1_fillLimited_57 : decode cX1_fillLimited 57 = .ok (.baload, 1) := by decide +kernel
theorem dX1_fillLimited_58 : decode cX1_fillLimited 58 = .ok (.ifCond .ne 7, 3) := by decide +kernel
theorem dX1_fillLimited_61 : decode cX1_fillLimited 61 = .ok (.iconst 1, 1) := by decide +kernel
theorem dX1_fillLimited_62 : decode cX1_fillLimited 62 = .ok (.goto 4, 3) := by decide +kernel
theorem dX1_fillLimited_65 : decode cX1_fillLimited 65 = .ok (.iconst 0, 1) := by decide +kernel
theorem dX1_fillLimited_66 : decode cX1_fillLimited 66 = .ok (.istore_n 3, 1) := by decide +kernel
theorem dX1_fillLimited_67 : decode cX1_fillLimited 67 = .ok (.iinc 4 1, 3) := by decide +kernel
theorem dX1_fillLimited_70 : decode cX1_fillLimited 70 = .ok (.goto (-49), 3) := by decide +kernel
theorem dX1_fillLimited_73 : decode cX1_fillLimited 73 = .ok (.aload_n 0, 1) := by decide +kernel
theorem dX1_fillLimited_74 : decode cX1_fillLimited 74 = .ok (.getfield 32, 3) := by decide +kernel
theorem dX1_fillLimited_77 : decode cX1_fillLimited 77 = .ok (.bipush 61, 2) := by decide +kernel
theorem dX1_fillLimited_79 : decode cX1_fillLimited 79 = .ok (.iload_n 1, 1) := by decide +kernel
theorem dX1_fillLimited_80 : decode cX1_fillLimited 80 = .ok (.imul, 1) := by decide +kernel
theorem dX1_fillLimited_81 : decode cX1_fillLimited 81 = .ok (.iload_n 2, 1) := by decide +kernel
theorem dX1_fillLimited_82 : decode cX1_fillLimited 82 = .ok (.iadd, 1) := by decide +kernel
theorem dX1_fillLimited_83 : decode cX1_fillLimited 83 = .ok (.iload_n 3, 1) := by decide +kernel
theorem dX1_fillLimited_84 : decode cX1_fillLimited 84 = .ok (.bastore, 1) := by decide +kernel
theorem dX1_fillLimited_85 : decode cX1_fillLimited 85 = .ok (.iinc 2 1, 3) := by decide +kernel
theorem dX1_fillLimited_88 : decode cX1_fillLimited 88 = .ok (.goto (-78), 3) := by decide +kernel
theorem dX1_fillLimited_91 : decode cX1_fillLimited 91 = .ok (.iinc 1 1, 3) := by decide +kernel
theorem dX1_fillLimited_94 : decode cX1_fillLimited 94 = .ok (.goto (-92), 3) := by decide +kernel
theorem dX1_fillLimited_97 : decode cX1_fillLimited 97 = .ok (.return_, 1) := by decide +kernel
abbrev cX1_atMost : ByteArray := prog_3_method_17_code
def yX1_atMost : MethodName := ⟨RX1, "atMost", "(I)I"⟩
theorem dX1_atMost_0 : decode cX1_atMost 0 = .ok (.iload_n 1, 1) := by decide +kernel
theorem dX1_atMost_1 : decode cX1_atMost 1 = .ok (.bipush 60, 2) := by decide +kernel
theorem dX1_atMost_3 : decode cX1_atMost 3 = .ok (.if_icmp .le 8, 3) := by decide +kernel
theorem dX1_atMost_6 : decode cX1_atMost 6 = .ok (.bipush 60, 2) := by decide +kernel
theorem dX1_atMost_8 : decode cX1_atMost 8 = .ok (.goto 4, 3) := by decide +kernel
theorem dX1_atMost_11 : decode cX1_atMost 11 = .ok (.iload_n 1, 1) := by decide +kernel
theorem dX1_atMost_12 : decode cX1_atMost 12 = .ok (.ireturn, 1) := by decide +kernel
abbrev cX1_counters : ByteArray := prog_3_method_16_code
def yX1_counters : MethodName := ⟨RX1, "counters", "()I"⟩
theorem dX1_counters_0 : decode cX1_counters 0 = .ok (.aload_n 0, 1) := by decide +kernel
theorem dX1_counters_1 : decode cX1_counters 1 = .ok (.getfield 7, 3) := by decide +kernel
theorem dX1_counters_4 : decode cX1_counters 4 = .ok (.iconst 0, 1) := by decide +kernel
theorem dX1_counters_5 : decode cX1_counters 5 = .ok (.iaload, 1) := by decide +kernel
theorem dX1_counters_6 : decode cX1_counters 6 = .ok (.bipush 16, 2) := by decide +kernel
theorem dX1_counters_8 : decode cX1_counters 8 = .ok (.aload_n 0, 1) := by decide +kernel
theorem dX1_counters_9 : decode cX1_counters 9 = .ok (.getfield 7, 3) := by decide +kernel
theorem dX1_counters_12 : decode cX1_counters 12 = .ok (.iconst 1, 1) := by decide +kernel
theorem dX1_counters_13 : decode cX1_counters 13 = .ok (.iaload, 1) := by decide +kernel
theorem dX1_counters_14 : decode cX1_counters 14 = .ok (.imul, 1) := by decide +kernel
theorem dX1_counters_15 : decode cX1_counters 15 = .ok (.iadd, 1) := by decide +kernel
theorem dX1_counters_16 : decode cX1_counters 16 = .ok (.istore_n 1, 1) := by decide +kernel
theorem dX1_counters_17 : decode cX1_counters 17 = .ok (.iload_n 1, 1) := by decide +kernel
theorem dX1_counters_18 : decode cX1_counters 18 = .ok (.bipush 60, 2) := by decide +kernel
theorem dX1_counters_20 : decode cX1_counters 20 = .ok (.if_icmp .le 8, 3) := by decide +kernel
theorem dX1_counters_23 : decode cX1_counters 23 = .ok (.bipush 60, 2) := by decide +kernel
theorem dX1_counters_25 : decode cX1_counters 25 = .ok (.goto 4, 3) := by decide +kernel
theorem dX1_counters_28 : decode cX1_counters 28 = .ok (.iload_n 1, 1) := by decide +kernel
theorem dX1_counters_29 : decode cX1_counters 29 = .ok (.ireturn, 1) := by decide +kernel
end
section
set_option maxRecDepth 100000
abbrev cX1_note : ByteArray := prog_3_method_20_code
def yX1_note : MethodName := ⟨RX1, "note", "(I)V"⟩
theorem dX1_note_0 : decode cX1_note 0 = .ok (.aload_n 0, 1) := by decide +kernel
theorem dX1_note_1 : decode cX1_note 1 = .ok (.getfield 80, 3) := by decide +kernel
theorem dX1_note_4 : decode cX1_note 4 = .ok (.istore_n 2, 1) := by decide +kernel
theorem dX1_note_5 : decode cX1_note 5 = .ok (.iload_n 2, 1) := by decide +kernel
theorem dX1_note_6 : decode cX1_note 6 = .ok (.ifCond .le 35, 3) := by decide +kernel
theorem dX1_note_9 : decode cX1_note 9 = .ok (.aload_n 0, 1) := by decide +kernel
theorem dX1_note_10 : decode cX1_note 10 = .ok (.getfield 35, 3) := by decide +kernel
theorem dX1_note_13 : decode cX1_note 13 = .ok (.iload_n 2, 1) := by decide +kernel
theorem dX1_note_14 : decode cX1_note 14 = .ok (.iconst 1, 1) := by decide +kernel
theorem dX1_note_15 : decode cX1_note 15 = .ok (.isub, 1) := by decide +kernel
theorem dX1_note_16 : decode cX1_note 16 = .ok (.iaload, 1) := by decide +kernel
theorem dX1_note_17 : decode cX1_note 17 = .ok (.iload_n 1, 1) := by decide +kernel
theorem dX1_note_18 : decode cX1_note 18 = .ok (.if_icmp .le 23, 3) := by decide +kernel
theorem dX1_note_21 : decode cX1_note 21 = .ok (.aload_n 0, 1) := by decide +kernel
theorem dX1_note_22 : decode cX1_note 22 = .ok (.getfield 35, 3) := by decide +kernel
theorem dX1_note_25 : decode cX1_note 25 = .ok (.iload_n 2, 1) := by decide +kernel
theorem dX1_note_26 : decode cX1_note 26 = .ok (.aload_n 0, 1) := by decide +kernel
theorem dX1_note_27 : decode cX1_note 27 = .ok (.getfield 35, 3) := by decide +kernel
theorem dX1_note_30 : decode cX1_note 30 = .ok (.iload_n 2, 1) := by decide +kernel
theorem dX1_note_31 : decode cX1_note 31 = .ok (.iconst 1, 1) := by decide +kernel
theorem dX1_note_32 : decode cX1_note 32 = .ok (.isub, 1) := by decide +kernel
theorem dX1_note_33 : decode cX1_note 33 = .ok (.iaload, 1) := by decide +kernel
theorem dX1_note_34 : decode cX1_note 34 = .ok (.iastore, 1) := by decide +kernel
theorem dX1_note_35 : decode cX1_note 35 = .ok (.iinc 2 (-1), 3) := by decide +kernel
theorem dX1_note_38 : decode cX1_note 38 = .ok (.goto (-33), 3) := by decide +kernel
theorem dX1_note_41 : decode cX1_note 41 = .ok (.aload_n 0, 1) := by decide +kernel
theorem dX1_note_42 : decode cX1_note 42 = .ok (.getfield 35, 3) := by decide +kernel
theorem dX1_note_45 : decode cX1_note 45 = .ok (.iload_n 2, 1) := by decide +kernel
theorem dX1_note_46 : decode cX1_note 46 = .ok (.iload_n 1, 1) := by decide +kernel
theorem dX1_note_47 : decode cX1_note 47 = .ok (.iastore, 1) := by decide +kernel
theorem dX1_note_48 : decode cX1_note 48 = .ok (.aload_n 0, 1) := by decide +kernel
theorem dX1_note_49 : decode cX1_note 49 = .ok (.dup, 1) := by decide +kernel
theorem dX1_note_50 : decode cX1_note 50 = .ok (.getfield 80, 3) := by decide +kernel
theorem dX1_note_53 : decode cX1_note 53 = .ok (.iconst 1, 1) := by decide +kernel
theorem dX1_note_54 : decode cX1_note 54 = .ok (.iadd, 1) := by decide +kernel
theorem dX1_note_55 : decode cX1_note 55 = .ok (.putfield 80, 3) := by decide +kernel
theorem dX1_note_58 : decode cX1_note 58 = .ok (.return_, 1) := by decide +kernel
abbrev cX1_fill : ByteArray := prog_3_method_15_code
def yX1_fill : MethodName := ⟨RX1, "fill", "(I)V"⟩
theorem dX1_fill_0 : decode cX1_fill 0 = .ok (.iload_n 1, 1) := by decide +kernel
theorem dX1_fill_1 : decode cX1_fill 1 = .ok (.iconst 3, 1) := by decide +kernel
theorem dX1_fill_2 : decode cX1_fill 2 = .ok (.if_icmp .ne 110, 3) := by decide +kernel
theorem dX1_fill_5 : decode cX1_fill 5 = .ok (.aload_n 0, 1) := by decide +kernel
theorem dX1_fill_6 : decode cX1_fill 6 = .ok (.getfield 7, 3) := by decide +kernel
theorem dX1_fill_9 : decode cX1_fill 9 = .ok (.iconst 0, 1) := by decide +kernel
theorem dX1_fill_10 : decode cX1_fill 10 = .ok (.iaload, 1) := by decide +kernel
theorem dX1_fill_11 : decode cX1_fill 11 = .ok (.aload_n 0, 1) := by decide +kernel
theorem dX1_fill_12 : decode cX1_fill 12 = .ok (.getfield 7, 3) := by decide +kernel
theorem dX1_fill_15 : decode cX1_fill 15 = .ok (.iconst 1, 1) := by decide +kernel
theorem dX1_fill_16 : decode cX1_fill 16 = .ok (.iaload, 1) := by decide +kernel
theorem dX1_fill_17 : decode cX1_fill 17 = .ok (.iadd, 1) := by decide +kernel
theorem dX1_fill_18 : decode cX1_fill 18 = .ok (.aload_n 0, 1) := by decide +kernel
theorem dX1_fill_19 : decode cX1_fill 19 = .ok (.getfield 7, 3) := by decide +kernel
theorem dX1_fill_22 : decode cX1_fill 22 = .ok (.iconst 2, 1) := by decide +kernel
theorem dX1_fill_23 : decode cX1_fill 23 = .ok (.iaload, 1) := by decide +kernel
theorem dX1_fill_24 : decode cX1_fill 24 = .ok (.iadd, 1) := by decide +kernel
theorem dX1_fill_25 : decode cX1_fill 25 = .ok (.istore_n 2, 1) := by decide +kernel
theorem dX1_fill_26 : decode cX1_fill 26 = .ok (.aload_n 0, 1) := by decide +kernel
theorem dX1_fill_27 : decode cX1_fill 27 = .ok (.getfield 7, 3) := by decide +kernel
theorem dX1_fill_30 : decode cX1_fill 30 = .ok (.iconst 1, 1) := by decide +kernel
theorem dX1_fill_31 : decode cX1_fill 31 = .ok (.iaload, 1) := by decide +kernel
theorem dX1_fill_32 : decode cX1_fill 32 = .ok (.aload_n 0, 1) := by decide +kernel
theorem dX1_fill_33 : decode cX1_fill 33 = .ok (.getfield 7, 3) := by decide +kernel
theorem dX1_fill_36 : decode cX1_fill 36 = .ok (.iconst 2, 1) := by decide +kernel
theorem dX1_fill_37 : decode cX1_fill 37 = .ok (.iaload, 1) := by decide +kernel
theorem dX1_fill_38 : decode cX1_fill 38 = .ok (.iadd, 1) := by decide +kernel
theorem dX1_fill_39 : decode cX1_fill 39 = .ok (.istore_n 3, 1) := by decide +kernel
theorem dX1_fill_40 : decode cX1_fill 40 = .ok (.iconst 0, 1) := by decide +kernel
theorem dX1_fill_41 : decode cX1_fill 41 = .ok (.istore 4, 2) := by decide +kernel
theorem dX1_fill_43 : decode cX1_fill 43 = .ok (.iload 4, 2) := by decide +kernel
theorem dX1_fill_45 : decode cX1_fill 45 = .ok (.aload_n 0, 1) := by decide +kernel
theorem dX1_fill_46 : decode cX1_fill 46 = .ok (.getfield 7, 3) := by decide +kernel
theorem dX1_fill_49 : decode cX1_fill 49 = .ok (.iconst 2, 1) := by decide +kernel
theorem dX1_fill_50 : decode cX1_fill 50 = .ok (.iaload, 1) := by decide +kernel
theorem dX1_fill_51 : decode cX1_fill 51 = .ok (.if_icmp .gt 58, 3) := by decide +kernel
theorem dX1_fill_54 : decode cX1_fill 54 = .ok (.iload 4, 2) := by decide +kernel
theorem dX1_fill_56 : decode cX1_fill 56 = .ok (.istore 5, 2) := by decide +kernel
theorem dX1_fill_58 : decode cX1_fill 58 = .ok (.iload 5, 2) := by decide +kernel
theorem dX1_fill_60 : decode cX1_fill 60 = .ok (.iload_n 3, 1) := by decide +kernel
theorem dX1_fill_61 : decode cX1_fill 61 = .ok (.if_icmp .gt 42, 3) := by decide +kernel
theorem dX1_fill_64 : decode cX1_fill 64 = .ok (.iload 5, 2) := by decide +kernel
theorem dX1_fill_66 : decode cX1_fill 66 = .ok (.istore 6, 2) := by decide +kernel
theorem dX1_fill_68 : decode cX1_fill 68 = .ok (.iload 6, 2) := by decide +kernel
theorem dX1_fill_70 : decode cX1_fill 70 = .ok (.iload_n 2, 1) := by decide +kernel
theorem dX1_fill_71 : decode cX1_fill 71 = .ok (.if_icmp .gt 26, 3) := by decide +kernel
theorem dX1_fill_74 : decode cX1_fill 74 = .ok (.aload_n 0, 1) := by decide +kernel
theorem dX1_fill_75 : decode cX1_fill 75 = .ok (.iload_n 1, 1) := by decide +kernel
theorem dX1_fill_76 : decode cX1_fill 76 = .ok (.iload 6, 2) := by decide +kernel
theorem dX1_fill_78 : decode cX1_fill 78 = .ok (.iload 5, 2) := by decide +kernel
theorem dX1_fill_80 : decode cX1_fill 80 = .ok (.isub, 1) := by decide +kernel
theorem dX1_fill_81 : decode cX1_fill 81 = .ok (.iload 5, 2) := by decide +kernel
theorem dX1_fill_83 : decode cX1_fill 83 = .ok (.iload 4, 2) := by decide +kernel
theorem dX1_fill_85 : decode cX1_fill 85 = .ok (.isub, 1) := by decide +kernel
theorem dX1_fill_86 : decode cX1_fill 86 = .ok (.iload 4, 2) := by decide +kernel
theorem dX1_fill_88 : decode cX1_fill 88 = .ok (.invokevirtual 73, 3) := by decide +kernel
theorem dX1_fill_91 : decode cX1_fill 91 = .ok (.iinc 6 1, 3) := by decide +kernel
theorem dX1_fill_94 : decode cX1_fill 94 = .ok (.goto (-26), 3) := by decide +kernel
theorem dX1_fill_97 : decode cX1_fill 97 = .ok (.iinc 5 1, 3) := by decide +kernel
theorem dX1_fill_100 : decode cX1_fill 100 = .ok (.goto (-42), 3) := by decide +kernel
theorem dX1_fill_103 : decode cX1_fill 103 = .ok (.iinc 4 1, 3) := by decide +kernel
theorem dX1_fill_106 : decode cX1_fill 106 = .ok (.goto (-63), 3) := by decide +kernel
theorem dX1_fill_109 : decode cX1_fill 109 = .ok (.goto 100, 3) := by decide +kernel
theorem dX1_fill_112 : decode cX1_fill 112 = .ok (.iload_n 1, 1) := by decide +kernel
theorem dX1_fill_113 : decode cX1_fill 113 = .ok (.iconst 4, 1) := by decide +kernel
theorem dX1_fill_114 : decode cX1_fill 114 = .ok (.if_icmp .eq 8, 3) := by decide +kernel
theorem dX1_fill_117 : decode cX1_fill 117 = .ok (.iload_n 1, 1) := by decide +kernel
theorem dX1_fill_118 : decode cX1_fill 118 = .ok (.iconst 5, 1) := by decide +kernel
theorem dX1_fill_119 : decode cX1_fill 119 = .ok (.if_icmp .ne 7, 3) := by decide +kernel
theorem dX1_fill_122 : decode cX1_fill 122 = .ok (.iconst 1, 1) := by decide +kernel
theorem dX1_fill_123 : decode cX1_fill 123 = .ok (.goto 4, 3) := by decide +kernel
theorem dX1_fill_126 : decode cX1_fill 126 = .ok (.iconst 0, 1) := by decide +kernel
theorem dX1_fill_127 : decode cX1_fill 127 = .ok (.istore_n 2, 1) := by decide +kernel
theorem dX1_fill_128 : decode cX1_fill 128 = .ok (.iload_n 2, 1) := by decide +kernel
theorem dX1_fill_129 : decode cX1_fill 129 = .ok (.ifCond .eq 12, 3) := by decide +kernel
theorem dX1_fill_132 : decode cX1_fill 132 = .ok (.aload_n 0, 1) := by decide +kernel
theorem dX1_fill_133 : decode cX1_fill 133 = .ok (.getfield 7, 3) := by decide +kernel
theorem dX1_fill_136 : decode cX1_fill 136 = .ok (.iconst 2, 1) := by decide +kernel
theorem dX1_fill_137 : decode cX1_fill 137 = .ok (.iaload, 1) := by decide +kernel
theorem dX1_fill_138 : decode cX1_fill 138 = .ok (.goto 4, 3) := by decide +kernel
theorem dX1_fill_141 : decode cX1_fill 141 = .ok (.iconst 0, 1) := by decide +kernel
theorem dX1_fill_142 : decode cX1_fill 142 = .ok (.istore_n 3, 1) := by decide +kernel
theorem dX1_fill_143 : decode cX1_fill 143 = .ok (.iload_n 3, 1) := by decide +kernel
theorem dX1_fill_144 : decode cX1_fill 144 = .ok (.aload_n 0, 1) := by decide +kernel
theorem dX1_fill_145 : decode cX1_fill 145 = .ok (.getfield 7, 3) := by decide +kernel
theorem dX1_fill_148 : decode cX1_fill 148 = .ok (.iconst 2, 1) := by decide +kernel
theorem dX1_fill_149 : decode cX1_fill 149 = .ok (.iaload, 1) := by decide +kernel
theorem dX1_fill_150 : decode cX1_fill 150 = .ok (.if_icmp .gt 59, 3) := by decide +kernel
theorem dX1_fill_153 : decode cX1_fill 153 = .ok (.iconst 0, 1) := by decide +kernel
theorem dX1_fill_154 : decode cX1_fill 154 = .ok (.istore 4, 2) := by decide +kernel
theorem dX1_fill_156 : decode cX1_fill 156 = .ok (.iload 4, 2) := by decide +kernel
theorem dX1_fill_158 : decode cX1_fill 158 = .ok (.aload_n 0, 1) := by decide +kernel
theorem dX1_fill_159 : decode cX1_fill 159 = .ok (.getfield 7, 3) := by decide +kernel
theorem dX1_fill_162 : decode cX1_fill 162 = .ok (.iconst 1, 1) := by decide +kernel
theorem dX1_fill_163 : decode cX1_fill 163 = .ok (.iaload, 1) := by decide +kernel
theorem dX1_fill_164 : decode cX1_fill 164 = .ok (.if_icmp .gt 39, 3) := by decide +kernel
theorem dX1_fill_167 : decode cX1_fill 167 = .ok (.iconst 0, 1) := by decide +kernel
theorem dX1_fill_168 : decode cX1_fill 168 = .ok (.istore 5, 2) := by decide +kernel
theorem dX1_fill_170 : decode cX1_fill 170 = .ok (.iload 5, 2) := by decide +kernel
theorem dX1_fill_172 : decode cX1_fill 172 = .ok (.aload_n 0, 1) := by decide +kernel
theorem dX1_fill_173 : decode cX1_fill 173 = .ok (.getfield 7, 3) := by decide +kernel
theorem dX1_fill_176 : decode cX1_fill 176 = .ok (.iconst 0, 1) := by decide +kernel
theorem dX1_fill_177 : decode cX1_fill 177 = .ok (.iaload, 1) := by decide +kernel
theorem dX1_fill_178 : decode cX1_fill 178 = .ok (.if_icmp .gt 19, 3) := by decide +kernel
theorem dX1_fill_181 : decode cX1_fill 181 = .ok (.aload_n 0, 1) := by decide +kernel
theorem dX1_fill_182 : decode cX1_fill 182 = .ok (.iload_n 1, 1) := by decide +kernel
theorem dX1_fill_183 : decode cX1_fill 183 = .ok (.iload 5, 2) := by decide +kernel
theorem dX1_fill_185 : decode cX1_fill 185 = .ok (.iload 4, 2) := by decide +kernel
theorem dX1_fill_187 : decode cX1_fill 187 = .ok (.iload_n 3, 1) := by decide +kernel
theorem dX1_fill_188 : decode cX1_fill 188 = .ok (.invokevirtual 73, 3) := by decide +kernel
theorem dX1_fill_191 : decode cX1_fill 191 = .ok (.iinc 5 1, 3) := by decide +kernel
theorem dX1_fill_194 : decode cX1_fill 194 = .ok (.goto (-24), 3) := by decide +kernel
theorem dX1_fill_197 : decode cX1_fill 197 = .ok (.iinc 4 1, 3) := by decide +kernel
theorem dX1_fill_200 : decode cX1_fill 200 = .ok (.goto (-44), 3) := by decide +kernel
theorem dX1_fill_203 : decode cX1_fill 203 = .ok (.iinc 3 1, 3) := by decide +kernel
theorem dX1_fill_206 : decode cX1_fill 206 = .ok (.goto (-63), 3) := by decide +kernel
theorem dX1_fill_209 : decode cX1_fill 209 = .ok (.return_, 1) := by decide +kernel
abbrev cX1_judge : ByteArray := prog_3_method_14_code
def yX1_judge : MethodName := ⟨RX1, "judge", "(IIII)V"⟩
theorem dX1_judge_0 : decode cX1_judge 0 = .ok (.aload_n 0, 1) := by decide +kernel
theorem dX1_judge_1 : decode cX1_judge 1 = .ok (.iload_n 2, 1) := by decide +kernel
theorem dX1_judge_2 : decode cX1_judge 2 = .ok (.iload_n 3, 1) := by decide +kernel
theorem dX1_judge_3 : decode cX1_judge 3 = .ok (.iload 4, 2) := by decide +kernel
theorem dX1_judge_5 : decode cX1_judge 5 = .ok (.invokevirtual 59, 3) := by decide +kernel
theorem dX1_judge_8 : decode cX1_judge 8 = .ok (.istore 5, 2) := by decide +kernel
theorem dX1_judge_10 : decode cX1_judge 10 = .ok (.iload_n 1, 1) := by decide +kernel
theorem dX1_judge_11 : decode cX1_judge 11 = .ok (.iconst 2, 1) := by decide +kernel
theorem dX1_judge_12 : decode cX1_judge 12 = .ok (.if_icmp .ne 27, 3) := by decide +kernel
theorem dX1_judge_15 : decode cX1_judge 15 = .ok (.aload_n 0, 1) := by decide +kernel
theorem dX1_judge_16 : decode cX1_judge 16 = .ok (.getfield 26, 3) := by decide +kernel
theorem dX1_judge_19 : decode cX1_judge 19 = .ok (.iload 5, 2) := by decide +kernel
theorem dX1_judge_21 : decode cX1_judge 21 = .ok (.iconst 0, 1) := by decide +kernel
theorem dX1_judge_22 : decode cX1_judge 22 = .ok (.iastore, 1) := by decide +kernel
theorem dX1_judge_23 : decode cX1_judge 23 = .ok (.aload_n 0, 1) := by decide +kernel
theorem dX1_judge_24 : decode cX1_judge 24 = .ok (.getfield 22, 3) := by decide +kernel
theorem dX1_judge_27 : decode cX1_judge 27 = .ok (.iload 5, 2) := by decide +kernel
theorem dX1_judge_29 : decode cX1_judge 29 = .ok (.aload_n 0, 1) := by decide +kernel
theorem dX1_judge_30 : decode cX1_judge 30 = .ok (.iload_n 2, 1) := by decide +kernel
theorem dX1_judge_31 : decode cX1_judge 31 = .ok (.iload_n 3, 1) := by decide +kernel
theorem dX1_judge_32 : decode cX1_judge 32 = .ok (.iload 4, 2) := by decide +kernel
theorem dX1_judge_34 : decode cX1_judge 34 = .ok (.invokevirtual 67, 3) := by decide +kernel
theorem dX1_judge_37 : decode cX1_judge 37 = .ok (.bastore, 1) := by decide +kernel
theorem dX1_judge_38 : decode cX1_judge 38 = .ok (.return_, 1) := by decide +kernel
theorem dX1_judge_39 : decode cX1_judge 39 = .ok (.aload_n 0, 1) := by decide +kernel
theorem dX1_judge_40 : decode cX1_judge 40 = .ok (.iload_n 1, 1) := by decide +kernel
theorem dX1_judge_41 : decode cX1_judge 41 = .ok (.iload_n 2, 1) := by decide +kernel
theorem dX1_judge_42 : decode cX1_judge 42 = .ok (.iload_n 3, 1) := by decide +kernel
theorem dX1_judge_43 : decode cX1_judge 43 = .ok (.iload 4, 2) := by decide +kernel
theorem dX1_judge_45 : decode cX1_judge 45 = .ok (.invokevirtual 70, 3) := by decide +kernel
theorem dX1_judge_48 : decode cX1_judge 48 = .ok (.aload_n 0, 1) := by decide +kernel
theorem dX1_judge_49 : decode cX1_judge 49 = .ok (.getfield 38, 3) := by decide +kernel
theorem dX1_judge_52 : decode cX1_judge 52 = .ok (.ifCond .ne 12, 3) := by decide +kernel
theorem dX1_judge_55 : decode cX1_judge 55 = .ok (.iload_n 1, 1) := by decide +kernel
theorem dX1_judge_56 : decode cX1_judge 56 = .ok (.iconst 1, 1) := by decide +kernel
theorem dX1_judge_57 : decode cX1_judge 57 = .ok (.if_icmp .ne 7, 3) := by decide +kernel
theorem dX1_judge_60 : decode cX1_judge 60 = .ok (.iconst 1, 1) := by decide +kernel
theorem dX1_judge_61 : decode cX1_judge 61 = .ok (.goto 4, 3) := by decide +kernel
theorem dX1_judge_64 : decode cX1_judge 64 = .ok (.iconst 0, 1) := by decide +kernel
theorem dX1_judge_65 : decode cX1_judge 65 = .ok (.istore 6, 2) := by decide +kernel
theorem dX1_judge_67 : decode cX1_judge 67 = .ok (.iconst 0, 1) := by decide +kernel
theorem dX1_judge_68 : decode cX1_judge 68 = .ok (.istore 7, 2) := by decide +kernel
theorem dX1_judge_70 : decode cX1_judge 70 = .ok (.iload 7, 2) := by decide +kernel
theorem dX1_judge_72 : decode cX1_judge 72 = .ok (.bipush 64, 2) := by decide +kernel
theorem dX1_judge_74 : decode cX1_judge 74 = .ok (.if_icmp .ge 17, 3) := by decide +kernel
theorem dX1_judge_77 : decode cX1_judge 77 = .ok (.aload_n 0, 1) := by decide +kernel
theorem dX1_judge_78 : decode cX1_judge 78 = .ok (.getfield 29, 3) := by decide +kernel
theorem dX1_judge_81 : decode cX1_judge 81 = .ok (.iload 7, 2) := by decide +kernel
theorem dX1_judge_83 : decode cX1_judge 83 = .ok (.iconst 0, 1) := by decide +kernel
theorem dX1_judge_84 : decode cX1_judge 84 = .ok (.bastore, 1) := by decide +kernel
theorem dX1_judge_85 : decode cX1_judge 85 = .ok (.iinc 7 1, 3) := by decide +kernel
theorem dX1_judge_88 : decode cX1_judge 88 = .ok (.goto (-18), 3) := by decide +kernel
theorem dX1_judge_91 : decode cX1_judge 91 = .ok (.iconst 0, 1) := by decide +kernel
theorem dX1_judge_92 : decode cX1_judge 92 = .ok (.istore 7, 2) := by decide +kernel
theorem dX1_judge_94 : decode cX1_judge 94 = .ok (.iload 7, 2) := by decide +kernel
theorem dX1_judge_96 : decode cX1_judge 96 = .ok (.aload_n 0, 1) := by decide +kernel
theorem dX1_judge_97 : decode cX1_judge 97 = .ok (.getfield 38, 3) := by decide +kernel
theorem dX1_judge_100 : decode cX1_judge 100 = .ok (.if_icmp .ge 62, 3) := by decide +kernel
theorem dX1_judge_103 : decode cX1_judge 103 = .ok (.aload_n 0, 1) := by decide +kernel
theorem dX1_judge_104 : decode cX1_judge 104 = .ok (.aload_n 0, 1) := by decide +kernel
theorem dX1_judge_105 : decode cX1_judge 105 = .ok (.getfield 13, 3) := by decide +kernel
theorem dX1_judge_108 : decode cX1_judge 108 = .ok (.iload 7, 2) := by decide +kernel
theorem dX1_judge_110 : decode cX1_judge 110 = .ok (.iaload, 1) := by decide +kernel
theorem dX1_judge_111 : decode cX1_judge 111 = .ok (.aload_n 0, 1) := by decide +kernel
theorem dX1_judge_112 : decode cX1_judge 112 = .ok (.getfield 16, 3) := by decide +kernel
theorem dX1_judge_115 : decode cX1_judge 115 = .ok (.iload 7, 2) := by decide +kernel
theorem dX1_judge_117 : decode cX1_judge 117 = .ok (.iaload, 1) := by decide +kernel
theorem dX1_judge_118 : decode cX1_judge 118 = .ok (.aload_n 0, 1) := by decide +kernel
theorem dX1_judge_119 : decode cX1_judge 119 = .ok (.getfield 19, 3) := by decide +kernel
theorem dX1_judge_122 : decode cX1_judge 122 = .ok (.iload 7, 2) := by decide +kernel
theorem dX1_judge_124 : decode cX1_judge 124 = .ok (.iaload, 1) := by decide +kernel
theorem dX1_judge_125 : decode cX1_judge 125 = .ok (.invokevirtual 59, 3) := by decide +kernel
theorem dX1_judge_128 : decode cX1_judge 128 = .ok (.istore 8, 2) := by decide +kernel
theorem dX1_judge_130 : decode cX1_judge 130 = .ok (.aload_n 0, 1) := by decide +kernel
theorem dX1_judge_131 : decode cX1_judge 131 = .ok (.getfield 22, 3) := by decide +kernel
theorem dX1_judge_134 : decode cX1_judge 134 = .ok (.iload 8, 2) := by decide +kernel
theorem dX1_judge_136 : decode cX1_judge 136 = .ok (.baload, 1) := by decide +kernel
theorem dX1_judge_137 : decode cX1_judge 137 = .ok (.ifCond .ne 6, 3) := by decide +kernel
theorem dX1_judge_140 : decode cX1_judge 140 = .ok (.iconst 1, 1) := by decide +kernel
theorem dX1_judge_141 : decode cX1_judge 141 = .ok (.istore 6, 2) := by decide +kernel
theorem dX1_judge_143 : decode cX1_judge 143 = .ok (.aload_n 0, 1) := by decide +kernel
theorem dX1_judge_144 : decode cX1_judge 144 = .ok (.getfield 29, 3) := by decide +kernel
theorem dX1_judge_147 : decode cX1_judge 147 = .ok (.aload_n 0, 1) := by decide +kernel
theorem dX1_judge_148 : decode cX1_judge 148 = .ok (.getfield 26, 3) := by decide +kernel
theorem dX1_judge_151 : decode cX1_judge 151 = .ok (.iload 8, 2) := by decide +kernel
theorem dX1_judge_153 : decode cX1_judge 153 = .ok (.iaload, 1) := by decide +kernel
theorem dX1_judge_154 : decode cX1_judge 154 = .ok (.iconst 1, 1) := by decide +kernel
theorem dX1_judge_155 : decode cX1_judge 155 = .ok (.bastore, 1) := by decide +kernel
theorem dX1_judge_156 : decode cX1_judge 156 = .ok (.iinc 7 1, 3) := by decide +kernel
theorem dX1_judge_159 : decode cX1_judge 159 = .ok (.goto (-65), 3) := by decide +kernel
theorem dX1_judge_162 : decode cX1_judge 162 = .ok (.iconst 0, 1) := by decide +kernel
theorem dX1_judge_163 : decode cX1_judge 163 = .ok (.istore 7, 2) := by decide +kernel
theorem dX1_judge_165 : decode cX1_judge 165 = .ok (.aload_n 0, 1) := by decide +kernel
theorem dX1_judge_166 : decode cX1_judge 166 = .ok (.getfield 29, 3) := by decide +kernel
theorem dX1_judge_169 : decode cX1_judge 169 = .ok (.iload 7, 2) := by decide +kernel
theorem dX1_judge_171 : decode cX1_judge 171 = .ok (.baload, 1) := by decide +kernel
theorem dX1_judge_172 : decode cX1_judge 172 = .ok (.ifCond .eq 9, 3) := by decide +kernel
theorem dX1_judge_175 : decode cX1_judge 175 = .ok (.iinc 7 1, 3) := by decide +kernel
theorem dX1_judge_178 : decode cX1_judge 178 = .ok (.goto (-13), 3) := by decide +kernel
theorem dX1_judge_181 : decode cX1_judge 181 = .ok (.aload_n 0, 1) := by decide +kernel
theorem dX1_judge_182 : decode cX1_judge 182 = .ok (.getfield 22, 3) := by decide +kernel
theorem dX1_judge_185 : decode cX1_judge 185 = .ok (.iload 5, 2) := by decide +kernel
theorem dX1_judge_187 : decode cX1_judge 187 = .ok (.iload 6, 2) := by decide +kernel
theorem dX1_judge_189 : decode cX1_judge 189 = .ok (.bastore, 1) := by decide +kernel
theorem dX1_judge_190 : decode cX1_judge 190 = .ok (.aload_n 0, 1) := by decide +kernel
theorem dX1_judge_191 : decode cX1_judge 191 = .ok (.getfield 26, 3) := by decide +kernel
theorem dX1_judge_194 : decode cX1_judge 194 = .ok (.iload 5, 2) := by decide +kernel
theorem dX1_judge_196 : decode cX1_judge 196 = .ok (.iload_n 1, 1) := by decide +kernel
theorem dX1_judge_197 : decode cX1_judge 197 = .ok (.ifCond .eq 9, 3) := by decide +kernel
theorem dX1_judge_200 : decode cX1_judge 200 = .ok (.iload_n 1, 1) := by decide +kernel
theorem dX1_judge_201 : decode cX1_judge 201 = .ok (.bipush 7, 2) := by decide +kernel
theorem dX1_judge_203 : decode cX1_judge 203 = .ok (.if_icmp .ne 8, 3) := by decide +kernel
theorem dX1_judge_206 : decode cX1_judge 206 = .ok (.iload 7, 2) := by decide +kernel
theorem dX1_judge_208 : decode cX1_judge 208 = .ok (.goto 4, 3) := by decide +kernel
theorem dX1_judge_211 : decode cX1_judge 211 = .ok (.iconst 0, 1) := by decide +kernel
theorem dX1_judge_212 : decode cX1_judge 212 = .ok (.iastore, 1) := by decide +kernel
theorem dX1_judge_213 : decode cX1_judge 213 = .ok (.return_, 1) := by decide +kernel
abbrev cX1_key : ByteArray := prog_3_method_5_code
def yX1_key : MethodName := ⟨RX1, "key", "(III)I"⟩
theorem dX1_key_0 : decode cX1_key 0 = .ok (.iload_n 3, 1) := by decide +kernel
theorem dX1_key_1 : decode cX1_key 1 = .ok (.bipush 31, 2) := by decide +kernel
theorem dX1_key_3 : decode cX1_key 3 = .ok (.imul, 1) := by decide +kernel
theorem dX1_key_4 : decode cX1_key 4 = .ok (.iload_n 2, 1) := by decide +kernel
theorem dX1_key_5 : decode cX1_key 5 = .ok (.iadd, 1) := by decide +kernel
theorem dX1_key_6 : decode cX1_key 6 = .ok (.bipush 46, 2) := by decide +kernel
theorem dX1_key_8 : decode cX1_key 8 = .ok (.imul, 1) := by decide +kernel
theorem dX1_key_9 : decode cX1_key 9 = .ok (.iload_n 1, 1) := by decide +kernel
theorem dX1_key_10 : decode cX1_key 10 = .ok (.iadd, 1) := by decide +kernel
theorem dX1_key_11 : decode cX1_key 11 = .ok (.ireturn, 1) := by decide +kernel
end
section
set_option maxRecDepth 100000
abbrev cX1_findsLost : ByteArray := prog_3_method_13_code
def yX1_findsLost : MethodName := ⟨RX1, "findsLost", "(III)Z"⟩
theorem dX1_findsLost_0 : decode cX1_findsLost 0 = .ok (.iconst 1, 1) := by decide +kernel
theorem dX1_findsLost_1 : decode cX1_findsLost 1 = .ok (.istore 4, 2) := by decide +kernel
theorem dX1_findsLost_3 : decode cX1_findsLost 3 = .ok (.iload 4, 2) := by decide +kernel
theorem dX1_findsLost_5 : decode cX1_findsLost 5 = .ok (.bipush 15, 2) := by decide +kernel
theorem dX1_findsLost_7 : decode cX1_findsLost 7 = .ok (.if_icmp .gt 116, 3) := by decide +kernel
theorem dX1_findsLost_10 : decode cX1_findsLost 10 = .ok (.aload_n 0, 1) := by decide +kernel
theorem dX1_findsLost_11 : decode cX1_findsLost 11 = .ok (.iload_n 1, 1) := by decide +kernel
theorem dX1_findsLost_12 : decode cX1_findsLost 12 = .ok (.iload 4, 2) := by decide +kernel
theorem dX1_findsLost_14 : decode cX1_findsLost 14 = .ok (.isub, 1) := by decide +kernel
theorem dX1_findsLost_15 : decode cX1_findsLost 15 = .ok (.iload_n 2, 1) := by decide +kernel
theorem dX1_findsLost_16 : decode cX1_findsLost 16 = .ok (.iload_n 3, 1) := by decide +kernel
theorem dX1_findsLost_17 : decode cX1_findsLost 17 = .ok (.invokevirtual 63, 3) := by decide +kernel
theorem dX1_findsLost_20 : decode cX1_findsLost 20 = .ok (.ifCond .ne 29, 3) := by decide +kernel
theorem dX1_findsLost_23 : decode cX1_findsLost 23 = .ok (.aload_n 0, 1) := by decide +kernel
theorem dX1_findsLost_24 : decode cX1_findsLost 24 = .ok (.iload_n 1, 1) := by decide +kernel
theorem dX1_findsLost_25 : decode cX1_findsLost 25 = .ok (.iload_n 2, 1) := by decide +kernel
theorem dX1_findsLost_26 : decode cX1_findsLost 26 = .ok (.iload 4, 2) := by decide +kernel
theorem dX1_findsLost_28 : decode cX1_findsLost 28 = .ok (.isub, 1) := by decide +kernel
theorem dX1_findsLost_29 : decode cX1_findsLost 29 = .ok (.iload_n 3, 1) := by decide +kernel
theorem dX1_findsLost_30 : decode cX1_findsLost 30 = .ok (.invokevirtual 63, 3) := by decide +kernel
theorem dX1_findsLost_33 : decode cX1_findsLost 33 = .ok (.ifCond .ne 16, 3) := by decide +kernel
theorem dX1_findsLost_36 : decode cX1_findsLost 36 = .ok (.aload_n 0, 1) := by decide +kernel
theorem dX1_findsLost_37 : decode cX1_findsLost 37 = .ok (.iload_n 1, 1) := by decide +kernel
theorem dX1_findsLost_38 : decode cX1_findsLost 38 = .ok (.iload_n 2, 1) := by decide +kernel
theorem dX1_findsLost_39 : decode cX1_findsLost 39 = .ok (.iload_n 3, 1) := by decide +kernel
theorem dX1_findsLost_40 : decode cX1_findsLost 40 = .ok (.iload 4, 2) := by decide +kernel
theorem dX1_findsLost_42 : decode cX1_findsLost 42 = .ok (.isub, 1) := by decide +kernel
theorem dX1_findsLost_43 : decode cX1_findsLost 43 = .ok (.invokevirtual 63, 3) := by decide +kernel
theorem dX1_findsLost_46 : decode cX1_findsLost 46 = .ok (.ifCond .eq 5, 3) := by decide +kernel
theorem dX1_findsLost_49 : decode cX1_findsLost 49 = .ok (.iconst 1, 1) := by decide +kernel
theorem dX1_findsLost_50 : decode cX1_findsLost 50 = .ok (.ireturn, 1) := by decide +kernel
theorem dX1_findsLost_51 : decode cX1_findsLost 51 = .ok (.iconst 1, 1) := by decide +kernel
theorem dX1_findsLost_52 : decode cX1_findsLost 52 = .ok (.istore 5, 2) := by decide +kernel
theorem dX1_findsLost_54 : decode cX1_findsLost 54 = .ok (.iload 5, 2) := by decide +kernel
theorem dX1_findsLost_56 : decode cX1_findsLost 56 = .ok (.bipush 15, 2) := by decide +kernel
theorem dX1_findsLost_58 : decode cX1_findsLost 58 = .ok (.if_icmp .gt 59, 3) := by decide +kernel
theorem dX1_findsLost_61 : decode cX1_findsLost 61 = .ok (.aload_n 0, 1) := by decide +kernel
theorem dX1_findsLost_62 : decode cX1_findsLost 62 = .ok (.iload_n 1, 1) := by decide +kernel
theorem dX1_findsLost_63 : decode cX1_findsLost 63 = .ok (.iload 4, 2) := by decide +kernel
theorem dX1_findsLost_65 : decode cX1_findsLost 65 = .ok (.isub, 1) := by decide +kernel
theorem dX1_findsLost_66 : decode cX1_findsLost 66 = .ok (.iload_n 2, 1) := by decide +kernel
theorem dX1_findsLost_67 : decode cX1_findsLost 67 = .ok (.iload 5, 2) := by decide +kernel
theorem dX1_findsLost_69 : decode cX1_findsLost 69 = .ok (.isub, 1) := by decide +kernel
theorem dX1_findsLost_70 : decode cX1_findsLost 70 = .ok (.iload_n 3, 1) := by decide +kernel
theorem dX1_findsLost_71 : decode cX1_findsLost 71 = .ok (.invokevirtual 63, 3) := by decide +kernel
theorem dX1_findsLost_74 : decode cX1_findsLost 74 = .ok (.ifCond .ne 35, 3) := by decide +kernel
theorem dX1_findsLost_77 : decode cX1_findsLost 77 = .ok (.aload_n 0, 1) := by decide +kernel
theorem dX1_findsLost_78 : decode cX1_findsLost 78 = .ok (.iload_n 1, 1) := by decide +kernel
theorem dX1_findsLost_79 : decode cX1_findsLost 79 = .ok (.iload 4, 2) := by decide +kernel
theorem dX1_findsLost_81 : decode cX1_findsLost 81 = .ok (.isub, 1) := by decide +kernel
theorem dX1_findsLost_82 : decode cX1_findsLost 82 = .ok (.iload_n 2, 1) := by decide +kernel
theorem dX1_findsLost_83 : decode cX1_findsLost 83 = .ok (.iload_n 3, 1) := by decide +kernel
theorem dX1_findsLost_84 : decode cX1_findsLost 84 = .ok (.iload 5, 2) := by decide +kernel
theorem dX1_findsLost_86 : decode cX1_findsLost 86 = .ok (.isub, 1) := by decide +kernel
theorem dX1_findsLost_87 : decode cX1_findsLost 87 = .ok (.invokevirtual 63, 3) := by decide +kernel
theorem dX1_findsLost_90 : decode cX1_findsLost 90 = .ok (.ifCond .ne 19, 3) := by decide +kernel
theorem dX1_findsLost_93 : decode cX1_findsLost 93 = .ok (.aload_n 0, 1) := by decide +kernel
theorem dX1_findsLost_94 : decode cX1_findsLost 94 = .ok (.iload_n 1, 1) := by decide +kernel
theorem dX1_findsLost_95 : decode cX1_findsLost 95 = .ok (.iload_n 2, 1) := by decide +kernel
theorem dX1_findsLost_96 : decode cX1_findsLost 96 = .ok (.iload 4, 2) := by decide +kernel
theorem dX1_findsLost_98 : decode cX1_findsLost 98 = .ok (.isub, 1) := by decide +kernel
theorem dX1_findsLost_99 : decode cX1_findsLost 99 = .ok (.iload_n 3, 1) := by decide +kernel
theorem dX1_findsLost_100 : decode cX1_findsLost 100 = .ok (.iload 5, 2) := by decide +kernel
theorem dX1_findsLost_102 : decode cX1_findsLost 102 = .ok (.isub, 1) := by decide +kernel
theorem dX1_findsLost_103 : decode cX1_findsLost 103 = .ok (.invokevirtual 63, 3) := by decide +kernel
theorem dX1_findsLost_106 : decode cX1_findsLost 106 = .ok (.ifCond .eq 5, 3) := by decide +kernel
theorem dX1_findsLost_109 : decode cX1_findsLost 109 = .ok (.iconst 1, 1) := by decide +kernel
theorem dX1_findsLost_110 : decode cX1_findsLost 110 = .ok (.ireturn, 1) := by decide +kernel
theorem dX1_findsLost_111 : decode cX1_findsLost 111 = .ok (.iinc 5 1, 3) := by decide +kernel
theorem dX1_findsLost_114 : decode cX1_findsLost 114 = .ok (.goto (-60), 3) := by decide +kernel
theorem dX1_findsLost_117 : decode cX1_findsLost 117 = .ok (.iinc 4 1, 3) := by decide +kernel
theorem dX1_findsLost_120 : decode cX1_findsLost 120 = .ok (.goto (-117), 3) := by decide +kernel
theorem dX1_findsLost_123 : decode cX1_findsLost 123 = .ok (.iconst 0, 1) := by decide +kernel
theorem dX1_findsLost_124 : decode cX1_findsLost 124 = .ok (.ireturn, 1) := by decide +kernel
abbrev cX1_isLost : ByteArray := prog_3_method_12_code
def yX1_isLost : MethodName := ⟨RX1, "isLost", "(III)Z"⟩
theorem dX1_isLost_0 : decode cX1_isLost 0 = .ok (.iload_n 1, 1) := by decide +kernel
theorem dX1_isLost_1 : decode cX1_isLost 1 = .ok (.ifCond .lt 30, 3) := by decide +kernel
theorem dX1_isLost_4 : decode cX1_isLost 4 = .ok (.iload_n 2, 1) := by decide +kernel
theorem dX1_isLost_5 : decode cX1_isLost 5 = .ok (.ifCond .lt 26, 3) := by decide +kernel
theorem dX1_isLost_8 : decode cX1_isLost 8 = .ok (.iload_n 3, 1) := by decide +kernel
theorem dX1_isLost_9 : decode cX1_isLost 9 = .ok (.ifCond .lt 22, 3) := by decide +kernel
theorem dX1_isLost_12 : decode cX1_isLost 12 = .ok (.aload_n 0, 1) := by decide +kernel
theorem dX1_isLost_13 : decode cX1_isLost 13 = .ok (.getfield 22, 3) := by decide +kernel
theorem dX1_isLost_16 : decode cX1_isLost 16 = .ok (.aload_n 0, 1) := by decide +kernel
theorem dX1_isLost_17 : decode cX1_isLost 17 = .ok (.iload_n 1, 1) := by decide +kernel
theorem dX1_isLost_18 : decode cX1_isLost 18 = .ok (.iload_n 2, 1) := by decide +kernel
theorem dX1_isLost_19 : decode cX1_isLost 19 = .ok (.iload_n 3, 1) := by decide +kernel
theorem dX1_isLost_20 : decode cX1_isLost 20 = .ok (.invokevirtual 59, 3) := by decide +kernel
theorem dX1_isLost_23 : decode cX1_isLost 23 = .ok (.baload, 1) := by decide +kernel
theorem dX1_isLost_24 : decode cX1_isLost 24 = .ok (.ifCond .ne 7, 3) := by decide +kernel
theorem dX1_isLost_27 : decode cX1_isLost 27 = .ok (.iconst 1, 1) := by decide +kernel
theorem dX1_isLost_28 : decode cX1_isLost 28 = .ok (.goto 4, 3) := by decide +kernel
theorem dX1_isLost_31 : decode cX1_isLost 31 = .ok (.iconst 0, 1) := by decide +kernel
theorem dX1_isLost_32 : decode cX1_isLost 32 = .ok (.ireturn, 1) := by decide +kernel
abbrev cX1_list : ByteArray := prog_3_method_7_code
def yX1_list : MethodName := ⟨RX1, "list", "(IIII)V"⟩
theorem dX1_list_0 : decode cX1_list 0 = .ok (.aload_n 0, 1) := by decide +kernel
theorem dX1_list_1 : decode cX1_list 1 = .ok (.iconst 0, 1) := by decide +kernel
theorem dX1_list_2 : decode cX1_list 2 = .ok (.putfield 38, 3) := by decide +kernel
theorem dX1_list_5 : decode cX1_list 5 = .ok (.iload_n 1, 1) := by decide +kernel
theorem dX1_list_6 : decode cX1_list 6 = .ok (.iconst 3, 1) := by decide +kernel
theorem dX1_list_7 : decode cX1_list 7 = .ok (.if_icmp .ne 14, 3) := by decide +kernel
theorem dX1_list_10 : decode cX1_list 10 = .ok (.aload_n 0, 1) := by decide +kernel
theorem dX1_list_11 : decode cX1_list 11 = .ok (.iload_n 2, 1) := by decide +kernel
theorem dX1_list_12 : decode cX1_list 12 = .ok (.iload_n 3, 1) := by decide +kernel
theorem dX1_list_13 : decode cX1_list 13 = .ok (.iload 4, 2) := by decide +kernel
theorem dX1_list_15 : decode cX1_list 15 = .ok (.invokevirtual 42, 3) := by decide +kernel
theorem dX1_list_18 : decode cX1_list 18 = .ok (.goto 44, 3) := by decide +kernel
theorem dX1_list_21 : decode cX1_list 21 = .ok (.iload_n 1, 1) := by decide +kernel
theorem dX1_list_22 : decode cX1_list 22 = .ok (.iconst 4, 1) := by decide +kernel
theorem dX1_list_23 : decode cX1_list 23 = .ok (.if_icmp .ne 14, 3) := by decide +kernel
theorem dX1_list_26 : decode cX1_list 26 = .ok (.aload_n 0, 1) := by decide +kernel
theorem dX1_list_27 : decode cX1_list 27 = .ok (.iload_n 2, 1) := by decide +kernel
theorem dX1_list_28 : decode cX1_list 28 = .ok (.iload_n 3, 1) := by decide +kernel
theorem dX1_list_29 : decode cX1_list 29 = .ok (.iload 4, 2) := by decide +kernel
theorem dX1_list_31 : decode cX1_list 31 = .ok (.invokevirtual 46, 3) := by decide +kernel
theorem dX1_list_34 : decode cX1_list 34 = .ok (.goto 28, 3) := by decide +kernel
theorem dX1_list_37 : decode cX1_list 37 = .ok (.iload_n 1, 1) := by decide +kernel
theorem dX1_list_38 : decode cX1_list 38 = .ok (.iconst 5, 1) := by decide +kernel
theorem dX1_list_39 : decode cX1_list 39 = .ok (.if_icmp .ne 14, 3) := by decide +kernel
theorem dX1_list_42 : decode cX1_list 42 = .ok (.aload_n 0, 1) := by decide +kernel
theorem dX1_list_43 : decode cX1_list 43 = .ok (.iload_n 2, 1) := by decide +kernel
theorem dX1_list_44 : decode cX1_list 44 = .ok (.iload_n 3, 1) := by decide +kernel
theorem dX1_list_45 : decode cX1_list 45 = .ok (.iload 4, 2) := by decide +kernel
theorem dX1_list_47 : decode cX1_list 47 = .ok (.invokevirtual 49, 3) := by decide +kernel
theorem dX1_list_50 : decode cX1_list 50 = .ok (.goto 12, 3) := by decide +kernel
theorem dX1_list_53 : decode cX1_list 53 = .ok (.aload_n 0, 1) := by decide +kernel
theorem dX1_list_54 : decode cX1_list 54 = .ok (.iload_n 1, 1) := by decide +kernel
theorem dX1_list_55 : decode cX1_list 55 = .ok (.iload_n 2, 1) := by decide +kernel
theorem dX1_list_56 : decode cX1_list 56 = .ok (.iload_n 3, 1) := by decide +kernel
theorem dX1_list_57 : decode cX1_list 57 = .ok (.iload 4, 2) := by decide +kernel
theorem dX1_list_59 : decode cX1_list 59 = .ok (.invokevirtual 52, 3) := by decide +kernel
theorem dX1_list_62 : decode cX1_list 62 = .ok (.return_, 1) := by decide +kernel
abbrev cX1_listPushes : ByteArray := prog_3_method_9_code
def yX1_listPushes : MethodName := ⟨RX1, "listPushes", "(III)V"⟩
theorem dX1_listPushes_0 : decode cX1_listPushes 0 = .ok (.iconst 1, 1) := by decide +kernel
theorem dX1_listPushes_1 : decode cX1_listPushes 1 = .ok (.istore 4, 2) := by decide +kernel
theorem dX1_listPushes_3 : decode cX1_listPushes 3 = .ok (.iload 4, 2) := by decide +kernel
theorem dX1_listPushes_5 : decode cX1_listPushes 5 = .ok (.iload_n 3, 1) := by decide +kernel
theorem dX1_listPushes_6 : decode cX1_listPushes 6 = .ok (.if_icmp .gt 22, 3) := by decide +kernel
theorem dX1_listPushes_9 : decode cX1_listPushes 9 = .ok (.aload_n 0, 1) := by decide +kernel
theorem dX1_listPushes_10 : decode cX1_listPushes 10 = .ok (.iload_n 1, 1) := by decide +kernel
theorem dX1_listPushes_11 : decode cX1_listPushes 11 = .ok (.iload_n 2, 1) := by decide +kernel
theorem dX1_listPushes_12 : decode cX1_listPushes 12 = .ok (.iload 4, 2) := by decide +kernel
theorem dX1_listPushes_14 : decode cX1_listPushes 14 = .ok (.iadd, 1) := by decide +kernel
theorem dX1_listPushes_15 : decode cX1_listPushes 15 = .ok (.iload_n 3, 1) := by decide +kernel
theorem dX1_listPushes_16 : decode cX1_listPushes 16 = .ok (.iload 4, 2) := by decide +kernel
theorem dX1_listPushes_18 : decode cX1_listPushes 18 = .ok (.isub, 1) := by decide +kernel
theorem dX1_listPushes_19 : decode cX1_listPushes 19 = .ok (.invokevirtual 56, 3) := by decide +kernel
theorem dX1_listPushes_22 : decode cX1_listPushes 22 = .ok (.iinc 4 1, 3) := by decide +kernel
theorem dX1_listPushes_25 : decode cX1_listPushes 25 = .ok (.goto (-22), 3) := by decide +kernel
theorem dX1_listPushes_28 : decode cX1_listPushes 28 = .ok (.iconst 1, 1) := by decide +kernel
theorem dX1_listPushes_29 : decode cX1_listPushes 29 = .ok (.istore 4, 2) := by decide +kernel
theorem dX1_listPushes_31 : decode cX1_listPushes 31 = .ok (.iload 4, 2) := by decide +kernel
theorem dX1_listPushes_33 : decode cX1_listPushes 33 = .ok (.iload_n 2, 1) := by decide +kernel
theorem dX1_listPushes_34 : decode cX1_listPushes 34 = .ok (.if_icmp .gt 22, 3) := by decide +kernel
theorem dX1_listPushes_37 : decode cX1_listPushes 37 = .ok (.aload_n 0, 1) := by decide +kernel
theorem dX1_listPushes_38 : decode cX1_listPushes 38 = .ok (.iload_n 1, 1) := by decide +kernel
theorem dX1_listPushes_39 : decode cX1_listPushes 39 = .ok (.iload 4, 2) := by decide +kernel
theorem dX1_listPushes_41 : decode cX1_listPushes 41 = .ok (.iadd, 1) := by decide +kernel
theorem dX1_listPushes_42 : decode cX1_listPushes 42 = .ok (.iload_n 2, 1) := by decide +kernel
theorem dX1_listPushes_43 : decode cX1_listPushes 43 = .ok (.iload 4, 2) := by decide +kernel
theorem dX1_listPushes_45 : decode cX1_listPushes 45 = .ok (.isub, 1) := by decide +kernel
theorem dX1_listPushes_46 : decode cX1_listPushes 46 = .ok (.iload_n 3, 1) := by decide +kernel
theorem dX1_listPushes_47 : decode cX1_listPushes 47 = .ok (.invokevirtual 56, 3) := by decide +kernel
theorem dX1_listPushes_50 : decode cX1_listPushes 50 = .ok (.iinc 4 1, 3) := by decide +kernel
theorem dX1_listPushes_53 : decode cX1_listPushes 53 = .ok (.goto (-22), 3) := by decide +kernel
theorem dX1_listPushes_56 : decode cX1_listPushes 56 = .ok (.iconst 1, 1) := by decide +kernel
theorem dX1_listPushes_57 : decode cX1_listPushes 57 = .ok (.istore 4, 2) := by decide +kernel
theorem dX1_listPushes_59 : decode cX1_listPushes 59 = .ok (.iload 4, 2) := by decide +kernel
theorem dX1_listPushes_61 : decode cX1_listPushes 61 = .ok (.iload_n 1, 1) := by decide +kernel
theorem dX1_listPushes_62 : decode cX1_listPushes 62 = .ok (.if_icmp .gt 19, 3) := by decide +kernel
theorem dX1_listPushes_65 : decode cX1_listPushes 65 = .ok (.aload_n 0, 1) := by decide +kernel
theorem dX1_listPushes_66 : decode cX1_listPushes 66 = .ok (.iload_n 1, 1) := by decide +kernel
theorem dX1_listPushes_67 : decode cX1_listPushes 67 = .ok (.iload 4, 2) := by decide +kernel
theorem dX1_listPushes_69 : decode cX1_listPushes 69 = .ok (.isub, 1) := by decide +kernel
theorem dX1_listPushes_70 : decode cX1_listPushes 70 = .ok (.iload_n 2, 1) := by decide +kernel
theorem dX1_listPushes_71 : decode cX1_listPushes 71 = .ok (.iload_n 3, 1) := by decide +kernel
theorem dX1_listPushes_72 : decode cX1_listPushes 72 = .ok (.invokevirtual 56, 3) := by decide +kernel
theorem dX1_listPushes_75 : decode cX1_listPushes 75 = .ok (.iinc 4 1, 3) := by decide +kernel
theorem dX1_listPushes_78 : decode cX1_listPushes 78 = .ok (.goto (-19), 3) := by decide +kernel
theorem dX1_listPushes_81 : decode cX1_listPushes 81 = .ok (.return_, 1) := by decide +kernel
abbrev cX1_leave : ByteArray := prog_3_method_6_code
def yX1_leave : MethodName := ⟨RX1, "leave", "(III)V"⟩
theorem dX1_leave_0 : decode cX1_leave 0 = .ok (.aload_n 0, 1) := by decide +kernel
theorem dX1_leave_1 : decode cX1_leave 1 = .ok (.getfield 13, 3) := by decide +kernel
theorem dX1_leave_4 : decode cX1_leave 4 = .ok (.aload_n 0, 1) := by decide +kernel
theorem dX1_leave_5 : decode cX1_leave 5 = .ok (.getfield 38, 3) := by decide +kernel
theorem dX1_leave_8 : decode cX1_leave 8 = .ok (.iload_n 1, 1) := by decide +kernel
theorem dX1_leave_9 : decode cX1_leave 9 = .ok (.iastore, 1) := by decide +kernel
theorem dX1_leave_10 : decode cX1_leave 10 = .ok (.aload_n 0, 1) := by decide +kernel
theorem dX1_leave_11 : decode cX1_leave 11 = .ok (.getfield 16, 3) := by decide +kernel
theorem dX1_leave_14 : decode cX1_leave 14 = .ok (.aload_n 0, 1) := by decide +kernel
theorem dX1_leave_15 : decode cX1_leave 15 = .ok (.getfield 38, 3) := by decide +kernel
theorem dX1_leave_18 : decode cX1_leave 18 = .ok (.iload_n 2, 1) := by decide +kernel
theorem dX1_leave_19 : decode cX1_leave 19 = .ok (.iastore, 1) := by decide +kernel
theorem dX1_leave_20 : decode cX1_leave 20 = .ok (.aload_n 0, 1) := by decide +kernel
theorem dX1_leave_21 : decode cX1_leave 21 = .ok (.getfield 19, 3) := by decide +kernel
theorem dX1_leave_24 : decode cX1_leave 24 = .ok (.aload_n 0, 1) := by decide +kernel
theorem dX1_leave_25 : decode cX1_leave 25 = .ok (.getfield 38, 3) := by decide +kernel
theorem dX1_leave_28 : decode cX1_leave 28 = .ok (.iload_n 3, 1) := by decide +kernel
theorem dX1_leave_29 : decode cX1_leave 29 = .ok (.iastore, 1) := by decide +kernel
theorem dX1_leave_30 : decode cX1_leave 30 = .ok (.aload_n 0, 1) := by decide +kernel
theorem dX1_leave_31 : decode cX1_leave 31 = .ok (.dup, 1) := by decide +kernel
theorem dX1_leave_32 : decode cX1_leave 32 = .ok (.getfield 38, 3) := by decide +kernel
theorem dX1_leave_35 : decode cX1_leave 35 = .ok (.iconst 1, 1) := by decide +kernel
theorem dX1_leave_36 : decode cX1_leave 36 = .ok (.iadd, 1) := by decide +kernel
theorem dX1_leave_37 : decode cX1_leave 37 = .ok (.putfield 38, 3) := by decide +kernel
theorem dX1_leave_40 : decode cX1_leave 40 = .ok (.return_, 1) := by decide +kernel
abbrev cX1_listEqual : ByteArray := prog_3_method_10_code
def yX1_listEqual : MethodName := ⟨RX1, "listEqual", "(III)V"⟩
theorem dX1_listEqual_0 : decode cX1_listEqual 0 = .ok (.iconst 1, 1) := by decide +kernel
theorem dX1_listEqual_1 : decode cX1_listEqual 1 = .ok (.istore 4, 2) := by decide +kernel
theorem dX1_listEqual_3 : decode cX1_listEqual 3 = .ok (.iload 4, 2) := by decide +kernel
theorem dX1_listEqual_5 : decode cX1_listEqual 5 = .ok (.iload_n 1, 1) := by decide +kernel
theorem dX1_listEqual_6 : decode cX1_listEqual 6 = .ok (.if_icmp .gt 19, 3) := by decide +kernel
theorem dX1_listEqual_9 : decode cX1_listEqual 9 = .ok (.aload_n 0, 1) := by decide +kernel
theorem dX1_listEqual_10 : decode cX1_listEqual 10 = .ok (.iload_n 1, 1) := by decide +kernel
theorem dX1_listEqual_11 : decode cX1_listEqual 11 = .ok (.iload 4, 2) := by decide +kernel
theorem dX1_listEqual_13 : decode cX1_listEqual 13 = .ok (.isub, 1) := by decide +kernel
theorem dX1_listEqual_14 : decode cX1_listEqual 14 = .ok (.iload_n 2, 1) := by decide +kernel
theorem dX1_listEqual_15 : decode cX1_listEqual 15 = .ok (.iload_n 3, 1) := by decide +kernel
theorem dX1_listEqual_16 : decode cX1_listEqual 16 = .ok (.invokevirtual 56, 3) := by decide +kernel
theorem dX1_listEqual_19 : decode cX1_listEqual 19 = .ok (.iinc 4 1, 3) := by decide +kernel
theorem dX1_listEqual_22 : decode cX1_listEqual 22 = .ok (.goto (-19), 3) := by decide +kernel
theorem dX1_listEqual_25 : decode cX1_listEqual 25 = .ok (.iconst 1, 1) := by decide +kernel
theorem dX1_listEqual_26 : decode cX1_listEqual 26 = .ok (.istore 4, 2) := by decide +kernel
theorem dX1_listEqual_28 : decode cX1_listEqual 28 = .ok (.iload 4, 2) := by decide +kernel
theorem dX1_listEqual_30 : decode cX1_listEqual 30 = .ok (.iload_n 2, 1) := by decide +kernel
theorem dX1_listEqual_31 : decode cX1_listEqual 31 = .ok (.if_icmp .gt 19, 3) := by decide +kernel
theorem dX1_listEqual_34 : decode cX1_listEqual 34 = .ok (.aload_n 0, 1) := by decide +kernel
theorem dX1_listEqual_35 : decode cX1_listEqual 35 = .ok (.iload_n 1, 1) := by decide +kernel
theorem dX1_listEqual_36 : decode cX1_listEqual 36 = .ok (.iload_n 2, 1) := by decide +kernel
theorem dX1_listEqual_37 : decode cX1_listEqual 37 = .ok (.iload 4, 2) := by decide +kernel
theorem dX1_listEqual_39 : decode cX1_listEqual 39 = .ok (.isub, 1) := by decide +kernel
theorem dX1_listEqual_40 : decode cX1_listEqual 40 = .ok (.iload_n 3, 1) := by decide +kernel
theorem dX1_listEqual_41 : decode cX1_listEqual 41 = .ok (.invokevirtual 56, 3) := by decide +kernel
theorem dX1_listEqual_44 : decode cX1_listEqual 44 = .ok (.iinc 4 1, 3) := by decide +kernel
theorem dX1_listEqual_47 : decode cX1_listEqual 47 = .ok (.goto (-19), 3) := by decide +kernel
theorem dX1_listEqual_50 : decode cX1_listEqual 50 = .ok (.iconst 1, 1) := by decide +kernel
theorem dX1_listEqual_51 : decode cX1_listEqual 51 = .ok (.istore 4, 2) := by decide +kernel
theorem dX1_listEqual_53 : decode cX1_listEqual 53 = .ok (.iload 4, 2) := by decide +kernel
theorem dX1_listEqual_55 : decode cX1_listEqual 55 = .ok (.iload_n 1, 1) := by decide +kernel
theorem dX1_listEqual_56 : decode cX1_listEqual 56 = .ok (.if_icmp .gt 28, 3) := by decide +kernel
theorem dX1_listEqual_59 : decode cX1_listEqual 59 = .ok (.iload 4, 2) := by decide +kernel
theorem dX1_listEqual_61 : decode cX1_listEqual 61 = .ok (.iload_n 2, 1) := by decide +kernel
theorem dX1_listEqual_62 : decode cX1_listEqual 62 = .ok (.if_icmp .gt 22, 3) := by decide +kernel
theorem dX1_listEqual_65 : decode cX1_listEqual 65 = .ok (.aload_n 0, 1) := by decide +kernel
theorem dX1_listEqual_66 : decode cX1_listEqual 66 = .ok (.iload_n 1, 1) := by decide +kernel
theorem dX1_listEqual_67 : decode cX1_listEqual 67 = .ok (.iload 4, 2) := by decide +kernel
theorem dX1_listEqual_69 : decode cX1_listEqual 69 = .ok (.isub, 1) := by decide +kernel
theorem dX1_listEqual_70 : decode cX1_listEqual 70 = .ok (.iload_n 2, 1) := by decide +kernel
theorem dX1_listEqual_71 : decode cX1_listEqual 71 = .ok (.iload 4, 2) := by decide +kernel
theorem dX1_listEqual_73 : decode cX1_listEqual 73 = .ok (.isub, 1) := by decide +kernel
theorem dX1_listEqual_74 : decode cX1_listEqual 74 = .ok (.iload_n 3, 1) := by decide +kernel
theorem dX1_listEqual_75 : decode cX1_listEqual 75 = .ok (.invokevirtual 56, 3) := by decide +kernel
theorem dX1_listEqual_78 : decode cX1_listEqual 78 = .ok (.iinc 4 1, 3) := by decide +kernel
theorem dX1_listEqual_81 : decode cX1_listEqual 81 = .ok (.goto (-28), 3) := by decide +kernel
theorem dX1_listEqual_84 : decode cX1_listEqual 84 = .ok (.return_, 1) := by decide +kernel
abbrev cX1_listMultiples : ByteArray := prog_3_method_11_code
def yX1_listMultiples : MethodName := ⟨RX1, "listMultiples", "(III)V"⟩
theorem dX1_listMultiples_0 : decode cX1_listMultiples 0 = .ok (.iload_n 1, 1) := by decide +kernel
theorem dX1_listMultiples_1 : decode cX1_listMultiples 1 = .ok (.ifCond .eq 7, 3) := by decide +kernel
theorem dX1_listMultiples_4 : decode cX1_listMultiples 4 = .ok (.iload_n 2, 1) := by decide +kernel
theorem dX1_listMultiples_5 : decode cX1_listMultiples 5 = .ok (.ifCond .ne 4, 3) := by decide +kernel
theorem dX1_listMultiples_8 : decode cX1_listMultiples 8 = .ok (.return_, 1) := by decide +kernel
theorem dX1_listMultiples_9 : decode cX1_listMultiples 9 = .ok (.iload_n 1, 1) := by decide +kernel
theorem dX1_listMultiples_10 : decode cX1_listMultiples 10 = .ok (.iload_n 2, 1) := by decide +kernel
theorem dX1_listMultiples_11 : decode cX1_listMultiples 11 = .ok (.if_icmp .ge 7, 3) := by decide +kernel
theorem dX1_listMultiples_14 : decode cX1_listMultiples 14 = .ok (.iload_n 1, 1) := by decide +kernel
theorem dX1_listMultiples_15 : decode cX1_listMultiples 15 = .ok (.goto 4, 3) := by decide +kernel
theorem dX1_listMultiples_18 : decode cX1_listMultiples 18 = .ok (.iload_n 2, 1) := by decide +kernel
theorem dX1_listMultiples_19 : decode cX1_listMultiples 19 = .ok (.istore 4, 2) := by decide +kernel
theorem dX1_listMultiples_21 : decode cX1_listMultiples 21 = .ok (.iload_n 1, 1) := by decide +kernel
theorem dX1_listMultiples_22 : decode cX1_listMultiples 22 = .ok (.iload_n 2, 1) := by decide +kernel
theorem dX1_listMultiples_23 : decode cX1_listMultiples 23 = .ok (.if_icmp .ge 7, 3) := by decide +kernel
theorem dX1_listMultiples_26 : decode cX1_listMultiples 26 = .ok (.iload_n 2, 1) := by decide +kernel
theorem dX1_listMultiples_27 : decode cX1_listMultiples 27 = .ok (.goto 4, 3) := by decide +kernel
theorem dX1_listMultiples_30 : decode cX1_listMultiples 30 = .ok (.iload_n 1, 1) := by decide +kernel
theorem dX1_listMultiples_31 : decode cX1_listMultiples 31 = .ok (.istore 5, 2) := by decide +kernel
theorem dX1_listMultiples_33 : decode cX1_listMultiples 33 = .ok (.iload 4, 2) := by decide +kernel
theorem dX1_listMultiples_35 : decode cX1_listMultiples 35 = .ok (.istore 6, 2) := by decide +kernel
theorem dX1_listMultiples_37 : decode cX1_listMultiples 37 = .ok (.iload 6, 2) := by decide +kernel
theorem dX1_listMultiples_39 : decode cX1_listMultiples 39 = .ok (.iload 5, 2) := by decide +kernel
theorem dX1_listMultiples_41 : decode cX1_listMultiples 41 = .ok (.if_icmp .gt 43, 3) := by decide +kernel
theorem dX1_listMultiples_44 : decode cX1_listMultiples 44 = .ok (.iload_n 1, 1) := by decide +kernel
theorem dX1_listMultiples_45 : decode cX1_listMultiples 45 = .ok (.iload_n 2, 1) := by decide +kernel
theorem dX1_listMultiples_46 : decode cX1_listMultiples 46 = .ok (.if_icmp .lt 13, 3) := by decide +kernel
theorem dX1_listMultiples_49 : decode cX1_listMultiples 49 = .ok (.aload_n 0, 1) := by decide +kernel
theorem dX1_listMultiples_50 : decode cX1_listMultiples 50 = .ok (.iload_n 1, 1) := by decide +kernel
theorem dX1_listMultiples_51 : decode cX1_listMultiples 51 = .ok (.iload 6, 2) := by decide +kernel
theorem dX1_listMultiples_53 : decode cX1_listMultiples 53 = .ok (.isub, 1) := by decide +kernel
theorem dX1_listMultiples_54 : decode cX1_listMultiples 54 = .ok (.iload_n 2, 1) := by decide +kernel
theorem dX1_listMultiples_55 : decode cX1_listMultiples 55 = .ok (.iload_n 3, 1) := by decide +kernel
theorem dX1_listMultiples_56 : decode cX1_listMultiples 56 = .ok (.invokevirtual 56, 3) := by decide +kernel
theorem dX1_listMultiples_59 : decode cX1_listMultiples 59 = .ok (.iload_n 2, 1) := by decide +kernel
theorem dX1_listMultiples_60 : decode cX1_listMultiples 60 = .ok (.iload_n 1, 1) := by decide +kernel
theorem dX1_listMultiples_61 : decode cX1_listMultiples 61 = .ok (.if_icmp .lt 13, 3) := by decide +kernel
theorem dX1_listMultiples_64 : decode cX1_listMultiples 64 = .ok (.aload_n 0, 1) := by decide +kernel
theorem dX1_listMultiples_65 : decode cX1_listMultiples 65 = .ok (.iload_n 1, 1) := by decide +kernel
theorem dX1_listMultiples_66 : decode cX1_listMultiples 66 = .ok (.iload_n 2, 1) := by decide +kernel
theorem dX1_listMultiples_67 : decode cX1_listMultiples 67 = .ok (.iload 6, 2) := by decide +kernel
theorem dX1_listMultiples_69 : decode cX1_listMultiples 69 = .ok (.isub, 1) := by decide +kernel
theorem dX1_listMultiples_70 : decode cX1_listMultiples 70 = .ok (.iload_n 3, 1) := by decide +kernel
theorem dX1_listMultiples_71 : decode cX1_listMultiples 71 = .ok (.invokevirtual 56, 3) := by decide +kernel
theorem dX1_listMultiples_74 : decode cX1_listMultiples 74 = .ok (.iload 6, 2) := by decide +kernel
theorem dX1_listMultiples_76 : decode cX1_listMultiples 76 = .ok (.iload 4, 2) := by decide +kernel
theorem dX1_listMultiples_78 : decode cX1_listMultiples 78 = .ok (.iadd, 1) := by decide +kernel
theorem dX1_listMultiples_79 : decode cX1_listMultiples 79 = .ok (.istore 6, 2) := by decide +kernel
theorem dX1_listMultiples_81 : decode cX1_listMultiples 81 = .ok (.goto (-44), 3) := by decide +kernel
theorem dX1_listMultiples_84 : decode cX1_listMultiples 84 = .ok (.return_, 1) := by decide +kernel
end
section
set_option maxRecDepth 100000
abbrev cX1_listSingles : ByteArray := prog_3_method_8_code
def yX1_listSingles : MethodName := ⟨RX1, "listSingles", "(IIII)V"⟩
theorem dX1_listSingles_0 : decode cX1_listSingles 0 = .ok (.iload_n 1, 1) := by decide +kernel
theorem dX1_listSingles_1 : decode cX1_listSingles 1 = .ok (.bipush 7, 2) := by decide +kernel
theorem dX1_listSingles_3 : decode cX1_listSingles 3 = .ok (.if_icmp .ne 7, 3) := by decide +kernel
theorem dX1_listSingles_6 : decode cX1_listSingles 6 = .ok (.iconst 3, 1) := by decide +kernel
theorem dX1_listSingles_7 : decode cX1_listSingles 7 = .ok (.goto 5, 3) := by decide +kernel
theorem dX1_listSingles_10 : decode cX1_listSingles 10 = .ok (.bipush 15, 2) := by decide +kernel
theorem dX1_listSingles_12 : decode cX1_listSingles 12 = .ok (.istore 5, 2) := by decide +kernel
theorem dX1_listSingles_14 : decode cX1_listSingles 14 = .ok (.iconst 1, 1) := by decide +kernel
theorem dX1_listSingles_15 : decode cX1_listSingles 15 = .ok (.istore 6, 2) := by decide +kernel
theorem dX1_listSingles_17 : decode cX1_listSingles 17 = .ok (.iload 6, 2) := by decide +kernel
theorem dX1_listSingles_19 : decode cX1_listSingles 19 = .ok (.iload 5, 2) := by decide +kernel
theorem dX1_listSingles_21 : decode cX1_listSingles 21 = .ok (.if_icmp .gt 162, 3) := by decide +kernel
theorem dX1_listSingles_24 : decode cX1_listSingles 24 = .ok (.iload 6, 2) := by decide +kernel
theorem dX1_listSingles_26 : decode cX1_listSingles 26 = .ok (.iload_n 2, 1) := by decide +kernel
theorem dX1_listSingles_27 : decode cX1_listSingles 27 = .ok (.if_icmp .gt 14, 3) := by decide +kernel
theorem dX1_listSingles_30 : decode cX1_listSingles 30 = .ok (.aload_n 0, 1) := by decide +kernel
theorem dX1_listSingles_31 : decode cX1_listSingles 31 = .ok (.iload_n 2, 1) := by decide +kernel
theorem dX1_listSingles_32 : decode cX1_listSingles 32 = .ok (.iload 6, 2) := by decide +kernel
theorem dX1_listSingles_34 : decode cX1_listSingles 34 = .ok (.isub, 1) := by decide +kernel
theorem dX1_listSingles_35 : decode cX1_listSingles 35 = .ok (.iload_n 3, 1) := by decide +kernel
theorem dX1_listSingles_36 : decode cX1_listSingles 36 = .ok (.iload 4, 2) := by decide +kernel
theorem dX1_listSingles_38 : decode cX1_listSingles 38 = .ok (.invokevirtual 56, 3) := by decide +kernel
theorem dX1_listSingles_41 : decode cX1_listSingles 41 = .ok (.iload 6, 2) := by decide +kernel
theorem dX1_listSingles_43 : decode cX1_listSingles 43 = .ok (.iload_n 3, 1) := by decide +kernel
theorem dX1_listSingles_44 : decode cX1_listSingles 44 = .ok (.if_icmp .gt 14, 3) := by decide +kernel
theorem dX1_listSingles_47 : decode cX1_listSingles 47 = .ok (.aload_n 0, 1) := by decide +kernel
theorem dX1_listSingles_48 : decode cX1_listSingles 48 = .ok (.iload_n 2, 1) := by decide +kernel
theorem dX1_listSingles_49 : decode cX1_listSingles 49 = .ok (.iload_n 3, 1) := by decide +kernel
theorem dX1_listSingles_50 : decode cX1_listSingles 50 = .ok (.iload 6, 2) := by decide +kernel
theorem dX1_listSingles_52 : decode cX1_listSingles 52 = .ok (.isub, 1) := by decide +kernel
theorem dX1_listSingles_53 : decode cX1_listSingles 53 = .ok (.iload 4, 2) := by decide +kernel
theorem dX1_listSingles_55 : decode cX1_listSingles 55 = .ok (.invokevirtual 56, 3) := by decide +kernel
theorem dX1_listSingles_58 : decode cX1_listSingles 58 = .ok (.iload 6, 2) := by decide +kernel
theorem dX1_listSingles_60 : decode cX1_listSingles 60 = .ok (.iload 4, 2) := by decide +kernel
theorem dX1_listSingles_62 : decode cX1_listSingles 62 = .ok (.if_icmp .gt 14, 3) := by decide +kernel
theorem dX1_listSingles_65 : decode cX1_listSingles 65 = .ok (.aload_n 0, 1) := by decide +kernel
theorem dX1_listSingles_66 : decode cX1_listSingles 66 = .ok (.iload_n 2, 1) := by decide +kernel
theorem dX1_listSingles_67 : decode cX1_listSingles 67 = .ok (.iload_n 3, 1) := by decide +kernel
theorem dX1_listSingles_68 : decode cX1_listSingles 68 = .ok (.iload 4, 2) := by decide +kernel
theorem dX1_listSingles_70 : decode cX1_listSingles 70 = .ok (.iload 6, 2) := by decide +kernel
theorem dX1_listSingles_72 : decode cX1_listSingles 72 = .ok (.isub, 1) := by decide +kernel
theorem dX1_listSingles_73 : decode cX1_listSingles 73 = .ok (.invokevirtual 56, 3) := by decide +kernel
theorem dX1_listSingles_76 : decode cX1_listSingles 76 = .ok (.iconst 1, 1) := by decide +kernel
theorem dX1_listSingles_77 : decode cX1_listSingles 77 = .ok (.istore 7, 2) := by decide +kernel
theorem dX1_listSingles_79 : decode cX1_listSingles 79 = .ok (.iload 7, 2) := by decide +kernel
theorem dX1_listSingles_81 : decode cX1_listSingles 81 = .ok (.bipush 15, 2) := by decide +kernel
theorem dX1_listSingles_83 : decode cX1_listSingles 83 = .ok (.if_icmp .gt 94, 3) := by decide +kernel
theorem dX1_listSingles_86 : decode cX1_listSingles 86 = .ok (.iload_n 1, 1) := by decide +kernel
theorem dX1_listSingles_87 : decode cX1_listSingles 87 = .ok (.iconst 2, 1) := by decide +kernel
theorem dX1_listSingles_88 : decode cX1_listSingles 88 = .ok (.if_icmp .ne 89, 3) := by decide +kernel
theorem dX1_listSingles_91 : decode cX1_listSingles 91 = .ok (.iload 6, 2) := by decide +kernel
theorem dX1_listSingles_93 : decode cX1_listSingles 93 = .ok (.iload_n 2, 1) := by decide +kernel
theorem dX1_listSingles_94 : decode cX1_listSingles 94 = .ok (.if_icmp .gt 23, 3) := by decide +kernel
theorem dX1_listSingles_97 : decode cX1_listSingles 97 = .ok (.iload 7, 2) := by decide +kernel
theorem dX1_listSingles_99 : decode cX1_listSingles 99 = .ok (.iload_n 3, 1) := by decide +kernel
theorem dX1_listSingles_100 : decode cX1_listSingles 100 = .ok (.if_icmp .gt 17, 3) := by decide +kernel
theorem dX1_listSingles_103 : decode cX1_listSingles 103 = .ok (.aload_n 0, 1) := by decide +kernel
theorem dX1_listSingles_104 : decode cX1_listSingles 104 = .ok (.iload_n 2, 1) := by decide +kernel
theorem dX1_listSingles_105 : decode cX1_listSingles 105 = .ok (.iload 6, 2) := by decide +kernel
theorem dX1_listSingles_107 : decode cX1_listSingles 107 = .ok (.isub, 1) := by decide +kernel
theorem dX1_listSingles_108 : decode cX1_listSingles 108 = .ok (.iload_n 3, 1) := by decide +kernel
theorem dX1_listSingles_109 : decode cX1_listSingles 109 = .ok (.iload 7, 2) := by decide +kernel
theorem dX1_listSingles_111 : decode cX1_listSingles 111 = .ok (.isub, 1) := by decide +kernel
theorem dX1_listSingles_112 : decode cX1_listSingles 112 = .ok (.iload 4, 2) := by decide +kernel
theorem dX1_listSingles_114 : decode cX1_listSingles 114 = .ok (.invokevirtual 56, 3) := by decide +kernel
theorem dX1_listSingles_117 : decode cX1_listSingles 117 = .ok (.iload 6, 2) := by decide +kernel
theorem dX1_listSingles_119 : decode cX1_listSingles 119 = .ok (.iload_n 2, 1) := by decide +kernel
theorem dX1_listSingles_120 : decode cX1_listSingles 120 = .ok (.if_icmp .gt 24, 3) := by decide +kernel
theorem dX1_listSingles_123 : decode cX1_listSingles 123 = .ok (.iload 7, 2) := by decide +kernel
theorem dX1_listSingles_125 : decode cX1_listSingles 125 = .ok (.iload 4, 2) := by decide +kernel
theorem dX1_listSingles_127 : decode cX1_listSingles 127 = .ok (.if_icmp .gt 17, 3) := by decide +kernel
theorem dX1_listSingles_130 : decode cX1_listSingles 130 = .ok (.aload_n 0, 1) := by decide +kernel
theorem dX1_listSingles_131 : decode cX1_listSingles 131 = .ok (.iload_n 2, 1) := by decide +kernel
theorem dX1_listSingles_132 : decode cX1_listSingles 132 = .ok (.iload 6, 2) := by decide +kernel
theorem dX1_listSingles_134 : decode cX1_listSingles 134 = .ok (.isub, 1) := by decide +kernel
theorem dX1_listSingles_135 : decode cX1_listSingles 135 = .ok (.iload_n 3, 1) := by decide +kernel
theorem dX1_listSingles_136 : decode cX1_listSingles 136 = .ok (.iload 4, 2) := by decide +kernel
theorem dX1_listSingles_138 : decode cX1_listSingles 138 = .ok (.iload 7, 2) := by decide +kernel
theorem dX1_listSingles_140 : decode cX1_listSingles 140 = .ok (.isub, 1) := by decide +kernel
theorem dX1_listSingles_141 : decode cX1_listSingles 141 = .ok (.invokevirtual 56, 3) := by decide +kernel
theorem dX1_listSingles_144 : decode cX1_listSingles 144 = .ok (.iload 6, 2) := by decide +kernel
theorem dX1_listSingles_146 : decode cX1_listSingles 146 = .ok (.iload_n 3, 1) := by decide +kernel
theorem dX1_listSingles_147 : decode cX1_listSingles 147 = .ok (.if_icmp .gt 24, 3) := by decide +kernel
theorem dX1_listSingles_150 : decode cX1_listSingles 150 = .ok (.iload 7, 2) := by decide +kernel
theorem dX1_listSingles_152 : decode cX1_listSingles 152 = .ok (.iload 4, 2) := by decide +kernel
theorem dX1_listSingles_154 : decode cX1_listSingles 154 = .ok (.if_icmp .gt 17, 3) := by decide +kernel
theorem dX1_listSingles_157 : decode cX1_listSingles 157 = .ok (.aload_n 0, 1) := by decide +kernel
theorem dX1_listSingles_158 : decode cX1_listSingles 158 = .ok (.iload_n 2, 1) := by decide +kernel
theorem dX1_listSingles_159 : decode cX1_listSingles 159 = .ok (.iload_n 3, 1) := by decide +kernel
theorem dX1_listSingles_160 : decode cX1_listSingles 160 = .ok (.iload 6, 2) := by decide +kernel
theorem dX1_listSingles_162 : decode cX1_listSingles 162 = .ok (.isub, 1) := by decide +kernel
theorem dX1_listSingles_163 : decode cX1_listSingles 163 = .ok (.iload 4, 2) := by decide +kernel
theorem dX1_listSingles_165 : decode cX1_listSingles 165 = .ok (.iload 7, 2) := by decide +kernel
theorem dX1_listSingles_167 : decode cX1_listSingles 167 = .ok (.isub, 1) := by decide +kernel
theorem dX1_listSingles_168 : decode cX1_listSingles 168 = .ok (.invokevirtual 56, 3) := by decide +kernel
theorem dX1_listSingles_171 : decode cX1_listSingles 171 = .ok (.iinc 7 1, 3) := by decide +kernel
theorem dX1_listSingles_174 : decode cX1_listSingles 174 = .ok (.goto (-95), 3) := by decide +kernel
theorem dX1_listSingles_177 : decode cX1_listSingles 177 = .ok (.iinc 6 1, 3) := by decide +kernel
theorem dX1_listSingles_180 : decode cX1_listSingles 180 = .ok (.goto (-163), 3) := by decide +kernel
theorem dX1_listSingles_183 : decode cX1_listSingles 183 = .ok (.return_, 1) := by decide +kernel
abbrev cX1_moves : ByteArray := prog_3_method_22_code
def yX1_moves : MethodName := ⟨RX1, "moves", "(I)I"⟩
theorem dX1_moves_0 : decode cX1_moves 0 = .ok (.aload_n 0, 1) := by decide +kernel
theorem dX1_moves_1 : decode cX1_moves 1 = .ok (.iload_n 1, 1) := by decide +kernel
theorem dX1_moves_2 : decode cX1_moves 2 = .ok (.invokevirtual 97, 3) := by decide +kernel
theorem dX1_moves_5 : decode cX1_moves 5 = .ok (.ifCond .eq 7, 3) := by decide +kernel
theorem dX1_moves_8 : decode cX1_moves 8 = .ok (.iconst (-1), 1) := by decide +kernel
theorem dX1_moves_9 : decode cX1_moves 9 = .ok (.goto 8, 3) := by decide +kernel
theorem dX1_moves_12 : decode cX1_moves 12 = .ok (.aload_n 0, 1) := by decide +kernel
theorem dX1_moves_13 : decode cX1_moves 13 = .ok (.iload_n 1, 1) := by decide +kernel
theorem dX1_moves_14 : decode cX1_moves 14 = .ok (.invokevirtual 101, 3) := by decide +kernel
theorem dX1_moves_17 : decode cX1_moves 17 = .ok (.ireturn, 1) := by decide +kernel
abbrev cX1_winning : ByteArray := prog_3_method_23_code
def yX1_winning : MethodName := ⟨RX1, "winning", "(I)I"⟩
theorem dX1_winning_0 : decode cX1_winning 0 = .ok (.aload_n 0, 1) := by decide +kernel
theorem dX1_winning_1 : decode cX1_winning 1 = .ok (.iload_n 1, 1) := by decide +kernel
theorem dX1_winning_2 : decode cX1_winning 2 = .ok (.invokevirtual 97, 3) := by decide +kernel
theorem dX1_winning_5 : decode cX1_winning 5 = .ok (.ifCond .eq 5, 3) := by decide +kernel
theorem dX1_winning_8 : decode cX1_winning 8 = .ok (.iconst (-1), 1) := by decide +kernel
theorem dX1_winning_9 : decode cX1_winning 9 = .ok (.ireturn, 1) := by decide +kernel
theorem dX1_winning_10 : decode cX1_winning 10 = .ok (.aload_n 0, 1) := by decide +kernel
theorem dX1_winning_11 : decode cX1_winning 11 = .ok (.iload_n 1, 1) := by decide +kernel
theorem dX1_winning_12 : decode cX1_winning 12 = .ok (.invokevirtual 101, 3) := by decide +kernel
theorem dX1_winning_15 : decode cX1_winning 15 = .ok (.pop, 1) := by decide +kernel
theorem dX1_winning_16 : decode cX1_winning 16 = .ok (.aload_n 0, 1) := by decide +kernel
theorem dX1_winning_17 : decode cX1_winning 17 = .ok (.getfield 80, 3) := by decide +kernel
theorem dX1_winning_20 : decode cX1_winning 20 = .ok (.ireturn, 1) := by decide +kernel
abbrev cX1_winningMove : ByteArray := prog_3_method_24_code
def yX1_winningMove : MethodName := ⟨RX1, "winningMove", "(II)I"⟩
theorem dX1_winningMove_0 : decode cX1_winningMove 0 = .ok (.aload_n 0, 1) := by decide +kernel
theorem dX1_winningMove_1 : decode cX1_winningMove 1 = .ok (.iload_n 1, 1) := by decide +kernel
theorem dX1_winningMove_2 : decode cX1_winningMove 2 = .ok (.invokevirtual 97, 3) := by decide +kernel
theorem dX1_winningMove_5 : decode cX1_winningMove 5 = .ok (.ifCond .eq 5, 3) := by decide +kernel
theorem dX1_winningMove_8 : decode cX1_winningMove 8 = .ok (.iconst (-1), 1) := by decide +kernel
theorem dX1_winningMove_9 : decode cX1_winningMove 9 = .ok (.ireturn, 1) := by decide +kernel
theorem dX1_winningMove_10 : decode cX1_winningMove 10 = .ok (.aload_n 0, 1) := by decide +kernel
theorem dX1_winningMove_11 : decode cX1_winningMove 11 = .ok (.iload_n 1, 1) := by decide +kernel
theorem dX1_winningMove_12 : decode cX1_winningMove 12 = .ok (.invokevirtual 101, 3) := by decide +kernel
theorem dX1_winningMove_15 : decode cX1_winningMove 15 = .ok (.pop, 1) := by decide +kernel
theorem dX1_winningMove_16 : decode cX1_winningMove 16 = .ok (.iload_n 2, 1) := by decide +kernel
theorem dX1_winningMove_17 : decode cX1_winningMove 17 = .ok (.ifCond .lt 11, 3) := by decide +kernel
theorem dX1_winningMove_20 : decode cX1_winningMove 20 = .ok (.iload_n 2, 1) := by decide +kernel
theorem dX1_winningMove_21 : decode cX1_winningMove 21 = .ok (.aload_n 0, 1) := by decide +kernel
theorem dX1_winningMove_22 : decode cX1_winningMove 22 = .ok (.getfield 80, 3) := by decide +kernel
theorem dX1_winningMove_25 : decode cX1_winningMove 25 = .ok (.if_icmp .lt 8, 3) := by decide +kernel
theorem dX1_winningMove_28 : decode cX1_winningMove 28 = .ok (.bipush (-4), 2) := by decide +kernel
theorem dX1_winningMove_30 : decode cX1_winningMove 30 = .ok (.goto 9, 3) := by decide +kernel
theorem dX1_winningMove_33 : decode cX1_winningMove 33 = .ok (.aload_n 0, 1) := by decide +kernel
theorem dX1_winningMove_34 : decode cX1_winningMove 34 = .ok (.getfield 35, 3) := by decide +kernel
theorem dX1_winningMove_37 : decode cX1_winningMove 37 = .ok (.iload_n 2, 1) := by decide +kernel
theorem dX1_winningMove_38 : decode cX1_winningMove 38 = .ok (.iaload, 1) := by decide +kernel
theorem dX1_winningMove_39 : decode cX1_winningMove 39 = .ok (.ireturn, 1) := by decide +kernel
abbrev cX1_value : ByteArray := prog_3_method_25_code
def yX1_value : MethodName := ⟨RX1, "value", "(I)I"⟩
theorem dX1_value_0 : decode cX1_value 0 = .ok (.iload_n 1, 1) := by decide +kernel
theorem dX1_value_1 : decode cX1_value 1 = .ok (.ifCond .eq 11, 3) := by decide +kernel
theorem dX1_value_4 : decode cX1_value 4 = .ok (.iload_n 1, 1) := by decide +kernel
theorem dX1_value_5 : decode cX1_value 5 = .ok (.bipush 7, 2) := by decide +kernel
theorem dX1_value_7 : decode cX1_value 7 = .ok (.if_icmp .eq 5, 3) := by decide +kernel
theorem dX1_value_10 : decode cX1_value 10 = .ok (.iconst (-1), 1) := by decide +kernel
theorem dX1_value_11 : decode cX1_value 11 = .ok (.ireturn, 1) := by decide +kernel
theorem dX1_value_12 : decode cX1_value 12 = .ok (.aload_n 0, 1) := by decide +kernel
theorem dX1_value_13 : decode cX1_value 13 = .ok (.iload_n 1, 1) := by decide +kernel
theorem dX1_value_14 : decode cX1_value 14 = .ok (.invokevirtual 94, 3) := by decide +kernel
theorem dX1_value_17 : decode cX1_value 17 = .ok (.aload_n 0, 1) := by decide +kernel
theorem dX1_value_18 : decode cX1_value 18 = .ok (.getfield 26, 3) := by decide +kernel
theorem dX1_value_21 : decode cX1_value 21 = .ok (.aload_n 0, 1) := by decide +kernel
theorem dX1_value_22 : decode cX1_value 22 = .ok (.aload_n 0, 1) := by decide +kernel
theorem dX1_value_23 : decode cX1_value 23 = .ok (.getfield 7, 3) := by decide +kernel
theorem dX1_value_26 : decode cX1_value 26 = .ok (.iconst 0, 1) := by decide +kernel
theorem dX1_value_27 : decode cX1_value 27 = .ok (.iaload, 1) := by decide +kernel
theorem dX1_value_28 : decode cX1_value 28 = .ok (.aload_n 0, 1) := by decide +kernel
theorem dX1_value_29 : decode cX1_value 29 = .ok (.getfield 7, 3) := by decide +kernel
theorem dX1_value_32 : decode cX1_value 32 = .ok (.iconst 1, 1) := by decide +kernel
theorem dX1_value_33 : decode cX1_value 33 = .ok (.iaload, 1) := by decide +kernel
theorem dX1_value_34 : decode cX1_value 34 = .ok (.aload_n 0, 1) := by decide +kernel
theorem dX1_value_35 : decode cX1_value 35 = .ok (.getfield 7, 3) := by decide +kernel
theorem dX1_value_38 : decode cX1_value 38 = .ok (.iconst 2, 1) := by decide +kernel
theorem dX1_value_39 : decode cX1_value 39 = .ok (.iaload, 1) := by decide +kernel
theorem dX1_value_40 : decode cX1_value 40 = .ok (.invokevirtual 59, 3) := by decide +kernel
theorem dX1_value_43 : decode cX1_value 43 = .ok (.iaload, 1) := by decide +kernel
theorem dX1_value_44 : decode cX1_value 44 = .ok (.ireturn, 1) := by decide +kernel
abbrev cX1_play : ByteArray := prog_3_method_26_code
def yX1_play : MethodName := ⟨RX1, "play", "(II)I"⟩
theorem dX1_play_0 : decode cX1_play 0 = .ok (.aload_n 0, 1) := by decide +kernel
theorem dX1_play_1 : decode cX1_play 1 = .ok (.iload_n 1, 1) := by decide +kernel
theorem dX1_play_2 : decode cX1_play 2 = .ok (.invokevirtual 97, 3) := by decide +kernel
theorem dX1_play_5 : decode cX1_play 5 = .ok (.ifCond .ne 14, 3) := by decide +kernel
theorem dX1_play_8 : decode cX1_play 8 = .ok (.iload_n 1, 1) := by decide +kernel
theorem dX1_play_9 : decode cX1_play 9 = .ok (.iconst 3, 1) := by decide +kernel
theorem dX1_play_10 : decode cX1_play 10 = .ok (.if_icmp .eq 9, 3) := by decide +kernel
theorem dX1_play_13 : decode cX1_play 13 = .ok (.iload_n 1, 1) := by decide +kernel
theorem dX1_play_14 : decode cX1_play 14 = .ok (.bipush 6, 2) := by decide +kernel
theorem dX1_play_16 : decode cX1_play 16 = .ok (.if_icmp .ne 5, 3) := by decide +kernel
theorem dX1_play_19 : decode cX1_play 19 = .ok (.iconst (-1), 1) := by decide +kernel
theorem dX1_play_20 : decode cX1_play 20 = .ok (.ireturn, 1) := by decide +kernel
theorem dX1_play_21 : decode cX1_play 21 = .ok (.aload_n 0, 1) := by decide +kernel
theorem dX1_play_22 : decode cX1_play 22 = .ok (.iload_n 1, 1) := by decide +kernel
theorem dX1_play_23 : decode cX1_play 23 = .ok (.invokevirtual 101, 3) := by decide +kernel
theorem dX1_play_26 : decode cX1_play 26 = .ok (.pop, 1) := by decide +kernel
theorem dX1_play_27 : decode cX1_play 27 = .ok (.iload_n 2, 1) := by decide +kernel
theorem dX1_play_28 : decode cX1_play 28 = .ok (.ifCond .lt 11, 3) := by decide +kernel
theorem dX1_play_31 : decode cX1_play 31 = .ok (.iload_n 2, 1) := by decide +kernel
theorem dX1_play_32 : decode cX1_play 32 = .ok (.aload_n 0, 1) := by decide +kernel
theorem dX1_play_33 : decode cX1_play 33 = .ok (.getfield 80, 3) := by decide +kernel
theorem dX1_play_36 : decode cX1_play 36 = .ok (.if_icmp .lt 6, 3) := by decide +kernel
theorem dX1_play_39 : decode cX1_play 39 = .ok (.bipush (-4), 2) := by decide +kernel
theorem dX1_play_41 : decode cX1_play 41 = .ok (.ireturn, 1) := by decide +kernel
theorem dX1_play_42 : decode cX1_play 42 = .ok (.aload_n 0, 1) := by decide +kernel
theorem dX1_play_43 : decode cX1_play 43 = .ok (.getfield 7, 3) := by decide +kernel
theorem dX1_play_46 : decode cX1_play 46 = .ok (.iconst 0, 1) := by decide +kernel
theorem dX1_play_47 : decode cX1_play 47 = .ok (.aload_n 0, 1) := by decide +kernel
theorem dX1_play_48 : decode cX1_play 48 = .ok (.getfield 35, 3) := by decide +kernel
theorem dX1_play_51 : decode cX1_play 51 = .ok (.iload_n 2, 1) := by decide +kernel
theorem dX1_play_52 : decode cX1_play 52 = .ok (.iaload, 1) := by decide +kernel
theorem dX1_play_53 : decode cX1_play 53 = .ok (.bipush 32, 2) := by decide +kernel
theorem dX1_play_55 : decode cX1_play 55 = .ok (.irem, 1) := by decide +kernel
theorem dX1_play_56 : decode cX1_play 56 = .ok (.iastore, 1) := by decide +kernel
theorem dX1_play_57 : decode cX1_play 57 = .ok (.aload_n 0, 1) := by decide +kernel
theorem dX1_play_58 : decode cX1_play 58 = .ok (.getfield 7, 3) := by decide +kernel
theorem dX1_play_61 : decode cX1_play 61 = .ok (.iconst 1, 1) := by decide +kernel
theorem dX1_play_62 : decode cX1_play 62 = .ok (.aload_n 0, 1) := by decide +kernel
theorem dX1_play_63 : decode cX1_play 63 = .ok (.getfield 35, 3) := by decide +kernel
theorem dX1_play_66 : decode cX1_play 66 = .ok (.iload_n 2, 1) := by decide +kernel
theorem dX1_play_67 : decode cX1_play 67 = .ok (.iaload, 1) := by decide +kernel
theorem dX1_play_68 : decode cX1_play 68 = .ok (.bipush 32, 2) := by decide +kernel
theorem dX1_play_70 : decode cX1_play 70 = .ok (.idiv, 1) := by decide +kernel
theorem dX1_play_71 : decode cX1_play 71 = .ok (.bipush 32, 2) := by decide +kernel
theorem dX1_play_73 : decode cX1_play 73 = .ok (.irem, 1) := by decide +kernel
theorem dX1_play_74 : decode cX1_play 74 = .ok (.iastore, 1) := by decide +kernel
theorem dX1_play_75 : decode cX1_play 75 = .ok (.aload_n 0, 1) := by decide +kernel
theorem dX1_play_76 : decode cX1_play 76 = .ok (.getfield 7, 3) := by decide +kernel
theorem dX1_play_79 : decode cX1_play 79 = .ok (.iconst 2, 1) := by decide +kernel
theorem dX1_play_80 : decode cX1_play 80 = .ok (.aload_n 0, 1) := by decide +kernel
theorem dX1_play_81 : decode cX1_play 81 = .ok (.getfield 35, 3) := by decide +kernel
theorem dX1_play_84 : decode cX1_play 84 = .ok (.iload_n 2, 1) := by decide +kernel
theorem dX1_play_85 : decode cX1_play 85 = .ok (.iaload, 1) := by decide +kernel
theorem dX1_play_86 : decode cX1_play 86 = .ok (.sipush 1024, 3) := by decide +kernel
theorem dX1_play_89 : decode cX1_play 89 = .ok (.idiv, 1) := by decide +kernel
theorem dX1_play_90 : decode cX1_play 90 = .ok (.iastore, 1) := by decide +kernel
theorem dX1_play_91 : decode cX1_play 91 = .ok (.aload_n 0, 1) := by decide +kernel
theorem dX1_play_92 : decode cX1_play 92 = .ok (.iload_n 1, 1) := by decide +kernel
theorem dX1_play_93 : decode cX1_play 93 = .ok (.invokevirtual 104, 3) := by decide +kernel
theorem dX1_play_96 : decode cX1_play 96 = .ok (.ireturn, 1) := by decide +kernel
end
section
set_option maxRecDepth 100000
theorem q38 : (Jvm.Cond.initialized "HeapGamesModel") ∈ lw_all := lw_g (lw_at lw_m1 2 rfl) rfl
theorem q168 : (Jvm.Cond.instantiable "HeapGamesModel" (11 : Nat)) ∈ lw_all := lw_g (lw_at lw_m1 132 rfl) rfl
theorem q170 : (Jvm.Cond.instanceMethod ({ cls := "HeapGamesModel", name := "<init>", desc := "()V" } : Jvm.MethodName)) ∈ lw_all := lw_g (lw_at lw_m1 134 rfl) rfl
theorem q171 : (Jvm.Cond.code ({ cls := "HeapGamesModel", name := "<init>", desc := "()V" } : Jvm.MethodName) prog_3_method_1_code (1 : Nat) (Option.none : Option Jvm.ClassFile.FieldType)) ∈ lw_all := lw_g (lw_at lw_m1 135 rfl) rfl
theorem q172 : (Jvm.Cond.methodLink "HeapGamesModel" (1 : Nat) ({ cls := "java/lang/Object", name := "<init>", desc := "()V" } : Jvm.MethodName)) ∈ lw_all := lw_g (lw_at lw_m1 136 rfl) rfl
theorem q173 : (Jvm.Cond.fieldLink "HeapGamesModel" (7 : Nat) "HeapGamesModel" "heaps" "[I") ∈ lw_all := lw_g (lw_at lw_m1 137 rfl) rfl
theorem q174 : (Jvm.Cond.fieldLink "HeapGamesModel" (38 : Nat) "HeapGamesModel" "count" "I") ∈ lw_all := lw_g (lw_at lw_m1 138 rfl) rfl
theorem q175 : (Jvm.Cond.fieldLink "HeapGamesModel" (13 : Nat) "HeapGamesModel" "xs" "[I") ∈ lw_all := lw_g (lw_at lw_m1 139 rfl) rfl
theorem q176 : (Jvm.Cond.fieldLink "HeapGamesModel" (16 : Nat) "HeapGamesModel" "ys" "[I") ∈ lw_all := lw_g (lw_at lw_m1 140 rfl) rfl
theorem q177 : (Jvm.Cond.fieldLink "HeapGamesModel" (19 : Nat) "HeapGamesModel" "zs" "[I") ∈ lw_all := lw_g (lw_at lw_m1 141 rfl) rfl
theorem q178 : (Jvm.Cond.fieldLink "HeapGamesModel" (22 : Nat) "HeapGamesModel" "win" "[Z") ∈ lw_all := lw_g (lw_at lw_m1 142 rfl) rfl
theorem q179 : (Jvm.Cond.fieldLink "HeapGamesModel" (26 : Nat) "HeapGamesModel" "values" "[I") ∈ lw_all := lw_g (lw_at lw_m1 143 rfl) rfl
theorem q180 : (Jvm.Cond.fieldLink "HeapGamesModel" (29 : Nat) "HeapGamesModel" "taken" "[Z") ∈ lw_all := lw_g (lw_at lw_m1 144 rfl) rfl
theorem q181 : (Jvm.Cond.fieldLink "HeapGamesModel" (32 : Nat) "HeapGamesModel" "limited" "[Z") ∈ lw_all := lw_g (lw_at lw_m1 145 rfl) rfl
theorem q182 : (Jvm.Cond.fieldLink "HeapGamesModel" (80 : Nat) "HeapGamesModel" "found" "I") ∈ lw_all := lw_g (lw_at lw_m1 146 rfl) rfl
theorem q183 : (Jvm.Cond.fieldLink "HeapGamesModel" (35 : Nat) "HeapGamesModel" "numbers" "[I") ∈ lw_all := lw_g (lw_at lw_m1 147 rfl) rfl
theorem q184 : (Jvm.Cond.lays "HeapGamesModel" "HeapGamesModel" "heaps" "[I") ∈ lw_all := lw_g (lw_at lw_m1 148 rfl) rfl
theorem q185 : (Jvm.Cond.soleField "HeapGamesModel" "heaps") ∈ lw_all := lw_g (lw_at lw_m1 149 rfl) rfl
theorem q186 : (Jvm.Cond.lays "HeapGamesModel" "HeapGamesModel" "count" "I") ∈ lw_all := lw_g (lw_at lw_m1 150 rfl) rfl
theorem q187 : (Jvm.Cond.soleField "HeapGamesModel" "count") ∈ lw_all := lw_g (lw_at lw_m1 151 rfl) rfl
theorem q188 : (Jvm.Cond.lays "HeapGamesModel" "HeapGamesModel" "xs" "[I") ∈ lw_all := lw_g (lw_at lw_m1 152 rfl) rfl
theorem q189 : (Jvm.Cond.soleField "HeapGamesModel" "xs") ∈ lw_all := lw_g (lw_at lw_m1 153 rfl) rfl
theorem q190 : (Jvm.Cond.lays "HeapGamesModel" "HeapGamesModel" "ys" "[I") ∈ lw_all := lw_g (lw_at lw_m1 154 rfl) rfl
theorem q191 : (Jvm.Cond.soleField "HeapGamesModel" "ys") ∈ lw_all := lw_g (lw_at lw_m1 155 rfl) rfl
theorem q192 : (Jvm.Cond.lays "HeapGamesModel" "HeapGamesModel" "zs" "[I") ∈ lw_all := lw_g (lw_at lw_m1 156 rfl) rfl
theorem q193 : (Jvm.Cond.soleField "HeapGamesModel" "zs") ∈ lw_all := lw_g (lw_at lw_m1 157 rfl) rfl
theorem q194 : (Jvm.Cond.lays "HeapGamesModel" "HeapGamesModel" "win" "[Z") ∈ lw_all := lw_g (lw_at lw_m1 158 rfl) rfl
theorem q195 : (Jvm.Cond.soleField "HeapGamesModel" "win") ∈ lw_all := lw_g (lw_at lw_m1 159 rfl) rfl
theorem q196 : (Jvm.Cond.lays "HeapGamesModel" "HeapGamesModel" "values" "[I") ∈ lw_all := lw_g (lw_at lw_m1 160 rfl) rfl
theorem q197 : (Jvm.Cond.soleField "HeapGamesModel" "values") ∈ lw_all := lw_g (lw_at lw_m1 161 rfl) rfl
theorem q198 : (Jvm.Cond.lays "HeapGamesModel" "HeapGamesModel" "taken" "[Z") ∈ lw_all := lw_g (lw_at lw_m1 162 rfl) rfl
theorem q199 : (Jvm.Cond.soleField "HeapGamesModel" "taken") ∈ lw_all := lw_g (lw_at lw_m1 163 rfl) rfl
theorem q200 : (Jvm.Cond.lays "HeapGamesModel" "HeapGamesModel" "limited" "[Z") ∈ lw_all := lw_g (lw_at lw_m1 164 rfl) rfl
theorem q201 : (Jvm.Cond.soleField "HeapGamesModel" "limited") ∈ lw_all := lw_g (lw_at lw_m1 165 rfl) rfl
theorem q202 : (Jvm.Cond.lays "HeapGamesModel" "HeapGamesModel" "found" "I") ∈ lw_all := lw_g (lw_at lw_m1 166 rfl) rfl
theorem q203 : (Jvm.Cond.soleField "HeapGamesModel" "found") ∈ lw_all := lw_g (lw_at lw_m1 167 rfl) rfl
theorem q204 : (Jvm.Cond.lays "HeapGamesModel" "HeapGamesModel" "numbers" "[I") ∈ lw_all := lw_g (lw_at lw_m1 168 rfl) rfl
theorem q205 : (Jvm.Cond.soleField "HeapGamesModel" "numbers") ∈ lw_all := lw_g (lw_at lw_m1 169 rfl) rfl
theorem q206 : (Jvm.Cond.superclass "HeapGamesModel" "java/lang/Object") ∈ lw_all := lw_g (lw_at lw_m1 170 rfl) rfl
theorem q209 : (Jvm.Cond.instanceMethod ({ cls := "HeapGamesModel", name := "heap", desc := "(II)I" } : Jvm.MethodName)) ∈ lw_all := lw_g (lw_at lw_m1 173 rfl) rfl
theorem q210 : (Jvm.Cond.selects "HeapGamesModel" ({ cls := "HeapGamesModel", name := "heap", desc := "(II)I" } : Jvm.MethodName) ({ cls := "HeapGamesModel", name := "heap", desc := "(II)I" } : Jvm.MethodName)) ∈ lw_all := lw_g (lw_at lw_m1 174 rfl) rfl
theorem q211 : (Jvm.Cond.code ({ cls := "HeapGamesModel", name := "heap", desc := "(II)I" } : Jvm.MethodName) prog_3_method_2_code (4 : Nat) (Option.some Jvm.ClassFile.FieldType.int)) ∈ lw_all := lw_g (lw_at lw_m1 175 rfl) rfl
theorem q213 : (Jvm.Cond.instanceMethod ({ cls := "HeapGamesModel", name := "has", desc := "(I)I" } : Jvm.MethodName)) ∈ lw_all := lw_g (lw_at lw_m1 177 rfl) rfl
theorem q214 : (Jvm.Cond.selects "HeapGamesModel" ({ cls := "HeapGamesModel", name := "has", desc := "(I)I" } : Jvm.MethodName) ({ cls := "HeapGamesModel", name := "has", desc := "(I)I" } : Jvm.MethodName)) ∈ lw_all := lw_g (lw_at lw_m1 178 rfl) rfl
theorem q215 : (Jvm.Cond.code ({ cls := "HeapGamesModel", name := "has", desc := "(I)I" } : Jvm.MethodName) prog_3_method_3_code (2 : Nat) (Option.some Jvm.ClassFile.FieldType.int)) ∈ lw_all := lw_g (lw_at lw_m1 179 rfl) rfl
theorem q217 : (Jvm.Cond.instanceMethod ({ cls := "HeapGamesModel", name := "won", desc := "(I)I" } : Jvm.MethodName)) ∈ lw_all := lw_g (lw_at lw_m1 181 rfl) rfl
theorem q218 : (Jvm.Cond.selects "HeapGamesModel" ({ cls := "HeapGamesModel", name := "won", desc := "(I)I" } : Jvm.MethodName) ({ cls := "HeapGamesModel", name := "won", desc := "(I)I" } : Jvm.MethodName)) ∈ lw_all := lw_g (lw_at lw_m1 182 rfl) rfl
theorem q219 : (Jvm.Cond.code ({ cls := "HeapGamesModel", name := "won", desc := "(I)I" } : Jvm.MethodName) prog_3_method_21_code (3 : Nat) (Option.some Jvm.ClassFile.FieldType.int)) ∈ lw_all := lw_g (lw_at lw_m1 183 rfl) rfl
theorem q220 : (Jvm.Cond.methodLink "HeapGamesModel" (97 : Nat) ({ cls := "HeapGamesModel", name := "noGame", desc := "(I)Z" } : Jvm.MethodName)) ∈ lw_all := lw_g (lw_at lw_m1 184 rfl) rfl
theorem q221 : (Jvm.Cond.privateMethod ({ cls := "HeapGamesModel", name := "noGame", desc := "(I)Z" } : Jvm.MethodName)) ∈ lw_tbl := lw_at lw_m1 185 rfl
theorem q222 : (Jvm.Cond.instanceMethod ({ cls := "HeapGamesModel", name := "noGame", desc := "(I)Z" } : Jvm.MethodName)) ∈ lw_all := lw_g (lw_at lw_m1 186 rfl) rfl
theorem q223 : (Jvm.Cond.code ({ cls := "HeapGamesModel", name := "noGame", desc := "(I)Z" } : Jvm.MethodName) prog_3_method_4_code (2 : Nat) (Option.some Jvm.ClassFile.FieldType.boolean)) ∈ lw_all := lw_g (lw_at lw_m1 187 rfl) rfl
theorem q224 : (Jvm.Cond.methodLink "HeapGamesModel" (101 : Nat) ({ cls := "HeapGamesModel", name := "search", desc := "(I)I" } : Jvm.MethodName)) ∈ lw_all := lw_g (lw_at lw_m1 188 rfl) rfl
theorem q225 : (Jvm.Cond.privateMethod ({ cls := "HeapGamesModel", name := "search", desc := "(I)I" } : Jvm.MethodName)) ∈ lw_tbl := lw_at lw_m1 189 rfl
theorem q226 : (Jvm.Cond.instanceMethod ({ cls := "HeapGamesModel", name := "search", desc := "(I)I" } : Jvm.MethodName)) ∈ lw_all := lw_g (lw_at lw_m1 190 rfl) rfl
theorem q227 : (Jvm.Cond.code ({ cls := "HeapGamesModel", name := "search", desc := "(I)I" } : Jvm.MethodName) prog_3_method_19_code (5 : Nat) (Option.some Jvm.ClassFile.FieldType.int)) ∈ lw_all := lw_g (lw_at lw_m1 191 rfl) rfl
theorem q228 : (Jvm.Cond.methodLink "HeapGamesModel" (83 : Nat) ({ cls := "HeapGamesModel", name := "fillLimited", desc := "()V" } : Jvm.MethodName)) ∈ lw_all := lw_g (lw_at lw_m1 192 rfl) rfl
theorem q229 : (Jvm.Cond.privateMethod ({ cls := "HeapGamesModel", name := "fillLimited", desc := "()V" } : Jvm.MethodName)) ∈ lw_tbl := lw_at lw_m1 193 rfl
theorem q230 : (Jvm.Cond.instanceMethod ({ cls := "HeapGamesModel", name := "fillLimited", desc := "()V" } : Jvm.MethodName)) ∈ lw_all := lw_g (lw_at lw_m1 194 rfl) rfl
theorem q231 : (Jvm.Cond.code ({ cls := "HeapGamesModel", name := "fillLimited", desc := "()V" } : Jvm.MethodName) prog_3_method_18_code (5 : Nat) (Option.none : Option Jvm.ClassFile.FieldType)) ∈ lw_all := lw_g (lw_at lw_m1 195 rfl) rfl
theorem q232 : (Jvm.Cond.methodLink "HeapGamesModel" (76 : Nat) ({ cls := "HeapGamesModel", name := "atMost", desc := "(I)I" } : Jvm.MethodName)) ∈ lw_all := lw_g (lw_at lw_m1 196 rfl) rfl
theorem q233 : (Jvm.Cond.privateMethod ({ cls := "HeapGamesModel", name := "atMost", desc := "(I)I" } : Jvm.MethodName)) ∈ lw_tbl := lw_at lw_m1 197 rfl
theorem q234 : (Jvm.Cond.instanceMethod ({ cls := "HeapGamesModel", name := "atMost", desc := "(I)I" } : Jvm.MethodName)) ∈ lw_all := lw_g (lw_at lw_m1 198 rfl) rfl
theorem q235 : (Jvm.Cond.code ({ cls := "HeapGamesModel", name := "atMost", desc := "(I)I" } : Jvm.MethodName) prog_3_method_17_code (2 : Nat) (Option.some Jvm.ClassFile.FieldType.int)) ∈ lw_all := lw_g (lw_at lw_m1 199 rfl) rfl
theorem q236 : (Jvm.Cond.methodLink "HeapGamesModel" (86 : Nat) ({ cls := "HeapGamesModel", name := "counters", desc := "()I" } : Jvm.MethodName)) ∈ lw_all := lw_g (lw_at lw_m1 200 rfl) rfl
theorem q237 : (Jvm.Cond.privateMethod ({ cls := "HeapGamesModel", name := "counters", desc := "()I" } : Jvm.MethodName)) ∈ lw_tbl := lw_at lw_m1 201 rfl
theorem q238 : (Jvm.Cond.instanceMethod ({ cls := "HeapGamesModel", name := "counters", desc := "()I" } : Jvm.MethodName)) ∈ lw_all := lw_g (lw_at lw_m1 202 rfl) rfl
theorem q239 : (Jvm.Cond.code ({ cls := "HeapGamesModel", name := "counters", desc := "()I" } : Jvm.MethodName) prog_3_method_16_code (2 : Nat) (Option.some Jvm.ClassFile.FieldType.int)) ∈ lw_all := lw_g (lw_at lw_m1 203 rfl) rfl
theorem q240 : (Jvm.Cond.methodLink "HeapGamesModel" (90 : Nat) ({ cls := "HeapGamesModel", name := "note", desc := "(I)V" } : Jvm.MethodName)) ∈ lw_all := lw_g (lw_at lw_m1 204 rfl) rfl
theorem q241 : (Jvm.Cond.privateMethod ({ cls := "HeapGamesModel", name := "note", desc := "(I)V" } : Jvm.MethodName)) ∈ lw_tbl := lw_at lw_m1 205 rfl
theorem q242 : (Jvm.Cond.instanceMethod ({ cls := "HeapGamesModel", name := "note", desc := "(I)V" } : Jvm.MethodName)) ∈ lw_all := lw_g (lw_at lw_m1 206 rfl) rfl
theorem q243 : (Jvm.Cond.code ({ cls := "HeapGamesModel", name := "note", desc := "(I)V" } : Jvm.MethodName) prog_3_method_20_code (3 : Nat) (Option.none : Option Jvm.ClassFile.FieldType)) ∈ lw_all := lw_g (lw_at lw_m1 207 rfl) rfl
theorem q244 : (Jvm.Cond.methodLink "HeapGamesModel" (94 : Nat) ({ cls := "HeapGamesModel", name := "fill", desc := "(I)V" } : Jvm.MethodName)) ∈ lw_all := lw_g (lw_at lw_m1 208 rfl) rfl
theorem q245 : (Jvm.Cond.privateMethod ({ cls := "HeapGamesModel", name := "fill", desc := "(I)V" } : Jvm.MethodName)) ∈ lw_tbl := lw_at lw_m1 209 rfl
theorem q246 : (Jvm.Cond.instanceMethod ({ cls := "HeapGamesModel", name := "fill", desc := "(I)V" } : Jvm.MethodName)) ∈ lw_all := lw_g (lw_at lw_m1 210 rfl) rfl
theorem q247 : (Jvm.Cond.code ({ cls := "HeapGamesModel", name := "fill", desc := "(I)V" } : Jvm.MethodName) prog_3_method_15_code (7 : Nat) (Option.none : Option Jvm.ClassFile.FieldType)) ∈ lw_all := lw_g (lw_at lw_m1 211 rfl) rfl
theorem q248 : (Jvm.Cond.methodLink "HeapGamesModel" (73 : Nat) ({ cls := "HeapGamesModel", name := "judge", desc := "(IIII)V" } : Jvm.MethodName)) ∈ lw_all := lw_g (lw_at lw_m1 212 rfl) rfl
theorem q249 : (Jvm.Cond.privateMethod ({ cls := "HeapGamesModel", name := "judge", desc := "(IIII)V" } : Jvm.MethodName)) ∈ lw_tbl := lw_at lw_m1 213 rfl
theorem q250 : (Jvm.Cond.instanceMethod ({ cls := "HeapGamesModel", name := "judge", desc := "(IIII)V" } : Jvm.MethodName)) ∈ lw_all := lw_g (lw_at lw_m1 214 rfl) rfl
theorem q251 : (Jvm.Cond.code ({ cls := "HeapGamesModel", name := "judge", desc := "(IIII)V" } : Jvm.MethodName) prog_3_method_14_code (9 : Nat) (Option.none : Option Jvm.ClassFile.FieldType)) ∈ lw_all := lw_g (lw_at lw_m1 215 rfl) rfl
theorem q252 : (Jvm.Cond.methodLink "HeapGamesModel" (59 : Nat) ({ cls := "HeapGamesModel", name := "key", desc := "(III)I" } : Jvm.MethodName)) ∈ lw_all := lw_g (lw_at lw_m1 216 rfl) rfl
theorem q253 : (Jvm.Cond.privateMethod ({ cls := "HeapGamesModel", name := "key", desc := "(III)I" } : Jvm.MethodName)) ∈ lw_tbl := lw_at lw_m1 217 rfl
theorem q254 : (Jvm.Cond.instanceMethod ({ cls := "HeapGamesModel", name := "key", desc := "(III)I" } : Jvm.MethodName)) ∈ lw_all := lw_g (lw_at lw_m1 218 rfl) rfl
theorem q255 : (Jvm.Cond.code ({ cls := "HeapGamesModel", name := "key", desc := "(III)I" } : Jvm.MethodName) prog_3_method_5_code (4 : Nat) (Option.some Jvm.ClassFile.FieldType.int)) ∈ lw_all := lw_g (lw_at lw_m1 219 rfl) rfl
theorem q256 : (Jvm.Cond.methodLink "HeapGamesModel" (67 : Nat) ({ cls := "HeapGamesModel", name := "findsLost", desc := "(III)Z" } : Jvm.MethodName)) ∈ lw_all := lw_g (lw_at lw_m1 220 rfl) rfl
theorem q257 : (Jvm.Cond.privateMethod ({ cls := "HeapGamesModel", name := "findsLost", desc := "(III)Z" } : Jvm.MethodName)) ∈ lw_tbl := lw_at lw_m1 221 rfl
theorem q258 : (Jvm.Cond.instanceMethod ({ cls := "HeapGamesModel", name := "findsLost", desc := "(III)Z" } : Jvm.MethodName)) ∈ lw_all := lw_g (lw_at lw_m1 222 rfl) rfl
theorem q259 : (Jvm.Cond.code ({ cls := "HeapGamesModel", name := "findsLost", desc := "(III)Z" } : Jvm.MethodName) prog_3_method_13_code (6 : Nat) (Option.some Jvm.ClassFile.FieldType.boolean)) ∈ lw_all := lw_g (lw_at lw_m1 223 rfl) rfl
theorem q260 : (Jvm.Cond.methodLink "HeapGamesModel" (63 : Nat) ({ cls := "HeapGamesModel", name := "isLost", desc := "(III)Z" } : Jvm.MethodName)) ∈ lw_all := lw_g (lw_at lw_m1 224 rfl) rfl
theorem q261 : (Jvm.Cond.privateMethod ({ cls := "HeapGamesModel", name := "isLost", desc := "(III)Z" } : Jvm.MethodName)) ∈ lw_tbl := lw_at lw_m1 225 rfl
theorem q262 : (Jvm.Cond.instanceMethod ({ cls := "HeapGamesModel", name := "isLost", desc := "(III)Z" } : Jvm.MethodName)) ∈ lw_all := lw_g (lw_at lw_m1 226 rfl) rfl
theorem q263 : (Jvm.Cond.code ({ cls := "HeapGamesModel", name := "isLost", desc := "(III)Z" } : Jvm.MethodName) prog_3_method_12_code (4 : Nat) (Option.some Jvm.ClassFile.FieldType.boolean)) ∈ lw_all := lw_g (lw_at lw_m1 227 rfl) rfl
theorem q264 : (Jvm.Cond.methodLink "HeapGamesModel" (70 : Nat) ({ cls := "HeapGamesModel", name := "list", desc := "(IIII)V" } : Jvm.MethodName)) ∈ lw_all := lw_g (lw_at lw_m1 228 rfl) rfl
theorem q265 : (Jvm.Cond.privateMethod ({ cls := "HeapGamesModel", name := "list", desc := "(IIII)V" } : Jvm.MethodName)) ∈ lw_tbl := lw_at lw_m1 229 rfl
theorem q266 : (Jvm.Cond.instanceMethod ({ cls := "HeapGamesModel", name := "list", desc := "(IIII)V" } : Jvm.MethodName)) ∈ lw_all := lw_g (lw_at lw_m1 230 rfl) rfl
theorem q267 : (Jvm.Cond.code ({ cls := "HeapGamesModel", name := "list", desc := "(IIII)V" } : Jvm.MethodName) prog_3_method_7_code (5 : Nat) (Option.none : Option Jvm.ClassFile.FieldType)) ∈ lw_all := lw_g (lw_at lw_m1 231 rfl) rfl
theorem q268 : (Jvm.Cond.methodLink "HeapGamesModel" (42 : Nat) ({ cls := "HeapGamesModel", name := "listPushes", desc := "(III)V" } : Jvm.MethodName)) ∈ lw_all := lw_g (lw_at lw_m1 232 rfl) rfl
theorem q269 : (Jvm.Cond.privateMethod ({ cls := "HeapGamesModel", name := "listPushes", desc := "(III)V" } : Jvm.MethodName)) ∈ lw_tbl := lw_at lw_m1 233 rfl
theorem q270 : (Jvm.Cond.instanceMethod ({ cls := "HeapGamesModel", name := "listPushes", desc := "(III)V" } : Jvm.MethodName)) ∈ lw_all := lw_g (lw_at lw_m1 234 rfl) rfl
theorem q271 : (Jvm.Cond.code ({ cls := "HeapGamesModel", name := "listPushes", desc := "(III)V" } : Jvm.MethodName) prog_3_method_9_code (5 : Nat) (Option.none : Option Jvm.ClassFile.FieldType)) ∈ lw_all := lw_g (lw_at lw_m1 235 rfl) rfl
theorem q272 : (Jvm.Cond.methodLink "HeapGamesModel" (56 : Nat) ({ cls := "HeapGamesModel", name := "leave", desc := "(III)V" } : Jvm.MethodName)) ∈ lw_all := lw_g (lw_at lw_m1 236 rfl) rfl
theorem q273 : (Jvm.Cond.privateMethod ({ cls := "HeapGamesModel", name := "leave", desc := "(III)V" } : Jvm.MethodName)) ∈ lw_tbl := lw_at lw_m1 237 rfl
theorem q274 : (Jvm.Cond.instanceMethod ({ cls := "HeapGamesModel", name := "leave", desc := "(III)V" } : Jvm.MethodName)) ∈ lw_all := lw_g (lw_at lw_m1 238 rfl) rfl
theorem q275 : (Jvm.Cond.code ({ cls := "HeapGamesModel", name := "leave", desc := "(III)V" } : Jvm.MethodName) prog_3_method_6_code (4 : Nat) (Option.none : Option Jvm.ClassFile.FieldType)) ∈ lw_all := lw_g (lw_at lw_m1 239 rfl) rfl
theorem q276 : (Jvm.Cond.methodLink "HeapGamesModel" (46 : Nat) ({ cls := "HeapGamesModel", name := "listEqual", desc := "(III)V" } : Jvm.MethodName)) ∈ lw_all := lw_g (lw_at lw_m2 0 rfl) rfl
theorem q277 : (Jvm.Cond.privateMethod ({ cls := "HeapGamesModel", name := "listEqual", desc := "(III)V" } : Jvm.MethodName)) ∈ lw_tbl := lw_at lw_m2 1 rfl
theorem q278 : (Jvm.Cond.instanceMethod ({ cls := "HeapGamesModel", name := "listEqual", desc := "(III)V" } : Jvm.MethodName)) ∈ lw_all := lw_g (lw_at lw_m2 2 rfl) rfl
theorem q279 : (Jvm.Cond.code ({ cls := "HeapGamesModel", name := "listEqual", desc := "(III)V" } : Jvm.MethodName) prog_3_method_10_code (5 : Nat) (Option.none : Option Jvm.ClassFile.FieldType)) ∈ lw_all := lw_g (lw_at lw_m2 3 rfl) rfl
theorem q280 : (Jvm.Cond.methodLink "HeapGamesModel" (49 : Nat) ({ cls := "HeapGamesModel", name := "listMultiples", desc := "(III)V" } : Jvm.MethodName)) ∈ lw_all := lw_g (lw_at lw_m2 4 rfl) rfl
theorem q281 : (Jvm.Cond.privateMethod ({ cls := "HeapGamesModel", name := "listMultiples", desc := "(III)V" } : Jvm.MethodName)) ∈ lw_tbl := lw_at lw_m2 5 rfl
theorem q282 : (Jvm.Cond.instanceMethod ({ cls := "HeapGamesModel", name := "listMultiples", desc := "(III)V" } : Jvm.MethodName)) ∈ lw_all := lw_g (lw_at lw_m2 6 rfl) rfl
theorem q283 : (Jvm.Cond.code ({ cls := "HeapGamesModel", name := "listMultiples", desc := "(III)V" } : Jvm.MethodName) prog_3_method_11_code (7 : Nat) (Option.none : Option Jvm.ClassFile.FieldType)) ∈ lw_all := lw_g (lw_at lw_m2 7 rfl) rfl
theorem q284 : (Jvm.Cond.methodLink "HeapGamesModel" (52 : Nat) ({ cls := "HeapGamesModel", name := "listSingles", desc := "(IIII)V" } : Jvm.MethodName)) ∈ lw_all := lw_g (lw_at lw_m2 8 rfl) rfl
theorem q285 : (Jvm.Cond.privateMethod ({ cls := "HeapGamesModel", name := "listSingles", desc := "(IIII)V" } : Jvm.MethodName)) ∈ lw_tbl := lw_at lw_m2 9 rfl
theorem q286 : (Jvm.Cond.instanceMethod ({ cls := "HeapGamesModel", name := "listSingles", desc := "(IIII)V" } : Jvm.MethodName)) ∈ lw_all := lw_g (lw_at lw_m2 10 rfl) rfl
theorem q287 : (Jvm.Cond.code ({ cls := "HeapGamesModel", name := "listSingles", desc := "(IIII)V" } : Jvm.MethodName) prog_3_method_8_code (8 : Nat) (Option.none : Option Jvm.ClassFile.FieldType)) ∈ lw_all := lw_g (lw_at lw_m2 11 rfl) rfl
theorem q289 : (Jvm.Cond.instanceMethod ({ cls := "HeapGamesModel", name := "moves", desc := "(I)I" } : Jvm.MethodName)) ∈ lw_all := lw_g (lw_at lw_m2 13 rfl) rfl
theorem q290 : (Jvm.Cond.selects "HeapGamesModel" ({ cls := "HeapGamesModel", name := "moves", desc := "(I)I" } : Jvm.MethodName) ({ cls := "HeapGamesModel", name := "moves", desc := "(I)I" } : Jvm.MethodName)) ∈ lw_all := lw_g (lw_at lw_m2 14 rfl) rfl
theorem q291 : (Jvm.Cond.code ({ cls := "HeapGamesModel", name := "moves", desc := "(I)I" } : Jvm.MethodName) prog_3_method_22_code (2 : Nat) (Option.some Jvm.ClassFile.FieldType.int)) ∈ lw_all := lw_g (lw_at lw_m2 15 rfl) rfl
theorem q293 : (Jvm.Cond.instanceMethod ({ cls := "HeapGamesModel", name := "winning", desc := "(I)I" } : Jvm.MethodName)) ∈ lw_all := lw_g (lw_at lw_m2 17 rfl) rfl
theorem q294 : (Jvm.Cond.selects "HeapGamesModel" ({ cls := "HeapGamesModel", name := "winning", desc := "(I)I" } : Jvm.MethodName) ({ cls := "HeapGamesModel", name := "winning", desc := "(I)I" } : Jvm.MethodName)) ∈ lw_all := lw_g (lw_at lw_m2 18 rfl) rfl
theorem q295 : (Jvm.Cond.code ({ cls := "HeapGamesModel", name := "winning", desc := "(I)I" } : Jvm.MethodName) prog_3_method_23_code (2 : Nat) (Option.some Jvm.ClassFile.FieldType.int)) ∈ lw_all := lw_g (lw_at lw_m2 19 rfl) rfl
theorem q297 : (Jvm.Cond.instanceMethod ({ cls := "HeapGamesModel", name := "winningMove", desc := "(II)I" } : Jvm.MethodName)) ∈ lw_all := lw_g (lw_at lw_m2 21 rfl) rfl
theorem q298 : (Jvm.Cond.selects "HeapGamesModel" ({ cls := "HeapGamesModel", name := "winningMove", desc := "(II)I" } : Jvm.MethodName) ({ cls := "HeapGamesModel", name := "winningMove", desc := "(II)I" } : Jvm.MethodName)) ∈ lw_all := lw_g (lw_at lw_m2 22 rfl) rfl
theorem q299 : (Jvm.Cond.code ({ cls := "HeapGamesModel", name := "winningMove", desc := "(II)I" } : Jvm.MethodName) prog_3_method_24_code (3 : Nat) (Option.some Jvm.ClassFile.FieldType.int)) ∈ lw_all := lw_g (lw_at lw_m2 23 rfl) rfl
theorem q301 : (Jvm.Cond.instanceMethod ({ cls := "HeapGamesModel", name := "value", desc := "(I)I" } : Jvm.MethodName)) ∈ lw_all := lw_g (lw_at lw_m2 25 rfl) rfl
theorem q302 : (Jvm.Cond.selects "HeapGamesModel" ({ cls := "HeapGamesModel", name := "value", desc := "(I)I" } : Jvm.MethodName) ({ cls := "HeapGamesModel", name := "value", desc := "(I)I" } : Jvm.MethodName)) ∈ lw_all := lw_g (lw_at lw_m2 26 rfl) rfl
theorem q303 : (Jvm.Cond.code ({ cls := "HeapGamesModel", name := "value", desc := "(I)I" } : Jvm.MethodName) prog_3_method_25_code (2 : Nat) (Option.some Jvm.ClassFile.FieldType.int)) ∈ lw_all := lw_g (lw_at lw_m2 27 rfl) rfl
theorem q305 : (Jvm.Cond.instanceMethod ({ cls := "HeapGamesModel", name := "play", desc := "(II)I" } : Jvm.MethodName)) ∈ lw_all := lw_g (lw_at lw_m2 29 rfl) rfl
theorem q306 : (Jvm.Cond.selects "HeapGamesModel" ({ cls := "HeapGamesModel", name := "play", desc := "(II)I" } : Jvm.MethodName) ({ cls := "HeapGamesModel", name := "play", desc := "(II)I" } : Jvm.MethodName)) ∈ lw_all := lw_g (lw_at lw_m2 30 rfl) rfl
theorem q307 : (Jvm.Cond.code ({ cls := "HeapGamesModel", name := "play", desc := "(II)I" } : Jvm.MethodName) prog_3_method_26_code (3 : Nat) (Option.some Jvm.ClassFile.FieldType.int)) ∈ lw_all := lw_g (lw_at lw_m2 31 rfl) rfl
theorem q308 : (Jvm.Cond.methodLink "HeapGamesModel" (104 : Nat) ({ cls := "HeapGamesModel", name := "won", desc := "(I)I" } : Jvm.MethodName)) ∈ lw_all := lw_g (lw_at lw_m2 32 rfl) rfl
theorem in_X1 : ∀ w ∈ wsX10, w ∈ lw_all := lw_in wsX10 [184, 186, 188, 190, 192, 194, 196, 198, 200, 202, 204] (by decide +kernel) (by decide +kernel)
end
section
set_option maxRecDepth 100000
/-! java/lang/Object -/
def RJ0 : String := "java/lang/Object"
abbrev cJ0_init : ByteArray := object_method_1_code
def yJ0_init : MethodName := ⟨RJ0, "<init>", "()V"⟩
theorem dJ0_init_0 : decode cJ0_init 0 = .ok (.return_, 1) := by decide +kernel
theorem q45 : (Jvm.Cond.instanceMethod ({ cls := "java/lang/Object", name := "<init>", desc := "()V" } : Jvm.MethodName)) ∈ lw_all := lw_g (lw_at lw_m1 9 rfl) rfl
theorem q46 : (Jvm.Cond.code ({ cls := "java/lang/Object", name := "<init>", desc := "()V" } : Jvm.MethodName) object_method_1_code (1 : Nat) (Option.none : Option Jvm.ClassFile.FieldType)) ∈ lw_all := lw_g (lw_at lw_m1 10 rfl) rfl

theorem q57 : (Jvm.Cond.arrayClass Jvm.ClassFile.FieldType.int) ∈ lw_all := lw_g (lw_at lw_m1 21 rfl) rfl
theorem q207 : (Jvm.Cond.arrayClass Jvm.ClassFile.FieldType.boolean) ∈ lw_all := lw_g (lw_at lw_m1 171 rfl) rfl

theorem q36 : (Jvm.Cond.initialized "HeapGamesLaw") ∈ lw_all := lw_g (lw_at lw_m1 0 rfl) rfl
theorem q39 : (Jvm.Cond.classLink "HeapGamesLaw" (7 : Nat) "HeapGames") ∈ lw_all := lw_g (lw_at lw_m1 3 rfl) rfl
theorem q41 : (Jvm.Cond.methodLink "HeapGamesLaw" (9 : Nat) ({ cls := "HeapGames", name := "<init>", desc := "()V" } : Jvm.MethodName)) ∈ lw_all := lw_g (lw_at lw_m1 5 rfl) rfl
theorem q58 : (Jvm.Cond.methodLink "HeapGamesLaw" (13 : Nat) ({ cls := "HeapGames", name := "heap", desc := "(II)I" } : Jvm.MethodName)) ∈ lw_all := lw_g (lw_at lw_m1 22 rfl) rfl
theorem q66 : (Jvm.Cond.methodLink "HeapGamesLaw" (18 : Nat) ({ cls := "HeapGames", name := "has", desc := "(I)I" } : Jvm.MethodName)) ∈ lw_all := lw_g (lw_at lw_m1 30 rfl) rfl
theorem q70 : (Jvm.Cond.methodLink "HeapGamesLaw" (23 : Nat) ({ cls := "HeapGames", name := "won", desc := "(I)I" } : Jvm.MethodName)) ∈ lw_all := lw_g (lw_at lw_m1 34 rfl) rfl
theorem q110 : (Jvm.Cond.methodLink "HeapGamesLaw" (27 : Nat) ({ cls := "HeapGames", name := "moves", desc := "(I)I" } : Jvm.MethodName)) ∈ lw_all := lw_g (lw_at lw_m1 74 rfl) rfl
theorem q150 : (Jvm.Cond.methodLink "HeapGamesLaw" (31 : Nat) ({ cls := "HeapGames", name := "winning", desc := "(I)I" } : Jvm.MethodName)) ∈ lw_all := lw_g (lw_at lw_m1 114 rfl) rfl
theorem q154 : (Jvm.Cond.methodLink "HeapGamesLaw" (35 : Nat) ({ cls := "HeapGames", name := "winningMove", desc := "(II)I" } : Jvm.MethodName)) ∈ lw_all := lw_g (lw_at lw_m1 118 rfl) rfl
theorem q158 : (Jvm.Cond.methodLink "HeapGamesLaw" (39 : Nat) ({ cls := "HeapGames", name := "value", desc := "(I)I" } : Jvm.MethodName)) ∈ lw_all := lw_g (lw_at lw_m1 122 rfl) rfl
theorem q162 : (Jvm.Cond.methodLink "HeapGamesLaw" (43 : Nat) ({ cls := "HeapGames", name := "play", desc := "(II)I" } : Jvm.MethodName)) ∈ lw_all := lw_g (lw_at lw_m1 126 rfl) rfl
theorem q167 : (Jvm.Cond.classLink "HeapGamesLaw" (10 : Nat) "HeapGamesModel") ∈ lw_all := lw_g (lw_at lw_m1 131 rfl) rfl
theorem q169 : (Jvm.Cond.methodLink "HeapGamesLaw" (12 : Nat) ({ cls := "HeapGamesModel", name := "<init>", desc := "()V" } : Jvm.MethodName)) ∈ lw_all := lw_g (lw_at lw_m1 133 rfl) rfl
theorem q208 : (Jvm.Cond.methodLink "HeapGamesLaw" (17 : Nat) ({ cls := "HeapGamesModel", name := "heap", desc := "(II)I" } : Jvm.MethodName)) ∈ lw_all := lw_g (lw_at lw_m1 172 rfl) rfl
theorem q212 : (Jvm.Cond.methodLink "HeapGamesLaw" (22 : Nat) ({ cls := "HeapGamesModel", name := "has", desc := "(I)I" } : Jvm.MethodName)) ∈ lw_all := lw_g (lw_at lw_m1 176 rfl) rfl
theorem q216 : (Jvm.Cond.methodLink "HeapGamesLaw" (26 : Nat) ({ cls := "HeapGamesModel", name := "won", desc := "(I)I" } : Jvm.MethodName)) ∈ lw_all := lw_g (lw_at lw_m1 180 rfl) rfl
theorem q288 : (Jvm.Cond.methodLink "HeapGamesLaw" (30 : Nat) ({ cls := "HeapGamesModel", name := "moves", desc := "(I)I" } : Jvm.MethodName)) ∈ lw_all := lw_g (lw_at lw_m2 12 rfl) rfl
theorem q292 : (Jvm.Cond.methodLink "HeapGamesLaw" (34 : Nat) ({ cls := "HeapGamesModel", name := "winning", desc := "(I)I" } : Jvm.MethodName)) ∈ lw_all := lw_g (lw_at lw_m2 16 rfl) rfl
theorem q296 : (Jvm.Cond.methodLink "HeapGamesLaw" (38 : Nat) ({ cls := "HeapGamesModel", name := "winningMove", desc := "(II)I" } : Jvm.MethodName)) ∈ lw_all := lw_g (lw_at lw_m2 20 rfl) rfl
theorem q300 : (Jvm.Cond.methodLink "HeapGamesLaw" (42 : Nat) ({ cls := "HeapGamesModel", name := "value", desc := "(I)I" } : Jvm.MethodName)) ∈ lw_all := lw_g (lw_at lw_m2 24 rfl) rfl
theorem q304 : (Jvm.Cond.methodLink "HeapGamesLaw" (46 : Nat) ({ cls := "HeapGamesModel", name := "play", desc := "(II)I" } : Jvm.MethodName)) ∈ lw_all := lw_g (lw_at lw_m2 28 rfl) rfl

/-! the law's own entry -/
abbrev cL_law : ByteArray := code
theorem dL_law_0 : decode cL_law 0 = .ok (.new 7, 3) := by decide +kernel
theorem dL_law_3 : decode cL_law 3 = .ok (.dup, 1) := by decide +kernel
theorem dL_law_4 : decode cL_law 4 = .ok (.invokespecial 9, 3) := by decide +kernel
theorem dL_law_7 : decode cL_law 7 = .ok (.astore_n 1, 1) := by decide +kernel
theorem dL_law_8 : decode cL_law 8 = .ok (.new 10, 3) := by decide +kernel
theorem dL_law_11 : decode cL_law 11 = .ok (.dup, 1) := by decide +kernel
theorem dL_law_12 : decode cL_law 12 = .ok (.invokespecial 12, 3) := by decide +kernel
theorem dL_law_15 : decode cL_law 15 = .ok (.astore_n 2, 1) := by decide +kernel
theorem dL_law_16 : decode cL_law 16 = .ok (.iconst 0, 1) := by decide +kernel
theorem dL_law_17 : decode cL_law 17 = .ok (.istore_n 3, 1) := by decide +kernel
theorem dL_law_18 : decode cL_law 18 = .ok (.iload_n 3, 1) := by decide +kernel
theorem dL_law_19 : decode cL_law 19 = .ok (.aload_n 0, 1) := by decide +kernel
theorem dL_law_20 : decode cL_law 20 = .ok (.arraylength, 1) := by decide +kernel
theorem dL_law_21 : decode cL_law 21 = .ok (.iconst 3, 1) := by decide +kernel
theorem dL_law_22 : decode cL_law 22 = .ok (.isub, 1) := by decide +kernel
theorem dL_law_23 : decode cL_law 23 = .ok (.if_icmp .gt 277, 3) := by decide +kernel
theorem dL_law_26 : decode cL_law 26 = .ok (.aload_n 0, 1) := by decide +kernel
theorem dL_law_27 : decode cL_law 27 = .ok (.iload_n 3, 1) := by decide +kernel
theorem dL_law_28 : decode cL_law 28 = .ok (.iaload, 1) := by decide +kernel
theorem dL_law_29 : decode cL_law 29 = .ok (.bipush 7, 2) := by decide +kernel
theorem dL_law_31 : decode cL_law 31 = .ok (.iand, 1) := by decide +kernel
theorem dL_law_32 : decode cL_law 32 = .ok (.tableswitch 262 0 7 #[48, 81, 104, 127, 150, 173, 206, 229], 48) := by decide +kernel
theorem dL_law_80 : decode cL_law 80 = .ok (.aload_n 1, 1) := by decide +kernel
theorem dL_law_81 : decode cL_law 81 = .ok (.aload_n 0, 1) := by decide +kernel
theorem dL_law_82 : decode cL_law 82 = .ok (.iload_n 3, 1) := by decide +kernel
theorem dL_law_83 : decode cL_law 83 = .ok (.iconst 1, 1) := by decide +kernel
theorem dL_law_84 : decode cL_law 84 = .ok (.iadd, 1) := by decide +kernel
theorem dL_law_85 : decode cL_law 85 = .ok (.iaload, 1) := by decide +kernel
theorem dL_law_86 : decode cL_law 86 = .ok (.aload_n 0, 1) := by decide +kernel
theorem dL_law_87 : decode cL_law 87 = .ok (.iload_n 3, 1) := by decide +kernel
theorem dL_law_88 : decode cL_law 88 = .ok (.iconst 2, 1) := by decide +kernel
theorem dL_law_89 : decode cL_law 89 = .ok (.iadd, 1) := by decide +kernel
theorem dL_law_90 : decode cL_law 90 = .ok (.iaload, 1) := by decide +kernel
theorem dL_law_91 : decode cL_law 91 = .ok (.invokevirtual 13, 3) := by decide +kernel
theorem dL_law_94 : decode cL_law 94 = .ok (.aload_n 2, 1) := by decide +kernel
theorem dL_law_95 : decode cL_law 95 = .ok (.aload_n 0, 1) := by decide +kernel
theorem dL_law_96 : decode cL_law 96 = .ok (.iload_n 3, 1) := by decide +kernel
theorem dL_law_97 : decode cL_law 97 = .ok (.iconst 1, 1) := by decide +kernel
theorem dL_law_98 : decode cL_law 98 = .ok (.iadd, 1) := by decide +kernel
theorem dL_law_99 : decode cL_law 99 = .ok (.iaload, 1) := by decide +kernel
theorem dL_law_100 : decode cL_law 100 = .ok (.aload_n 0, 1) := by decide +kernel
theorem dL_law_101 : decode cL_law 101 = .ok (.iload_n 3, 1) := by decide +kernel
theorem dL_law_102 : decode cL_law 102 = .ok (.iconst 2, 1) := by decide +kernel
theorem dL_law_103 : decode cL_law 103 = .ok (.iadd, 1) := by decide +kernel
theorem dL_law_104 : decode cL_law 104 = .ok (.iaload, 1) := by decide +kernel
theorem dL_law_105 : decode cL_law 105 = .ok (.invokevirtual 17, 3) := by decide +kernel
theorem dL_law_108 : decode cL_law 108 = .ok (.if_icmp .eq 186, 3) := by decide +kernel
theorem dL_law_111 : decode cL_law 111 = .ok (.iconst 0, 1) := by decide +kernel
theorem dL_law_112 : decode cL_law 112 = .ok (.ireturn, 1) := by decide +kernel
theorem dL_law_113 : decode cL_law 113 = .ok (.aload_n 1, 1) := by decide +kernel
theorem dL_law_114 : decode cL_law 114 = .ok (.aload_n 0, 1) := by decide +kernel
theorem dL_law_115 : decode cL_law 115 = .ok (.iload_n 3, 1) := by decide +kernel
theorem dL_law_116 : decode cL_law 116 = .ok (.iconst 1, 1) := by decide +kernel
theorem dL_law_117 : decode cL_law 117 = .ok (.iadd, 1) := by decide +kernel
theorem dL_law_118 : decode cL_law 118 = .ok (.iaload, 1) := by decide +kernel
theorem dL_law_119 : decode cL_law 119 = .ok (.invokevirtual 18, 3) := by decide +kernel
theorem dL_law_122 : decode cL_law 122 = .ok (.aload_n 2, 1) := by decide +kernel
theorem dL_law_123 : decode cL_law 123 = .ok (.aload_n 0, 1) := by decide +kernel
theorem dL_law_124 : decode cL_law 124 = .ok (.iload_n 3, 1) := by decide +kernel
theorem dL_law_125 : decode cL_law 125 = .ok (.iconst 1, 1) := by decide +kernel
theorem dL_law_126 : decode cL_law 126 = .ok (.iadd, 1) := by decide +kernel
theorem dL_law_127 : decode cL_law 127 = .ok (.iaload, 1) := by decide +kernel
theorem dL_law_128 : decode cL_law 128 = .ok (.invokevirtual 22, 3) := by decide +kernel
theorem dL_law_131 : decode cL_law 131 = .ok (.if_icmp .eq 163, 3) := by decide +kernel
theorem dL_law_134 : decode cL_law 134 = .ok (.iconst 0, 1) := by decide +kernel
theorem dL_law_135 : decode cL_law 135 = .ok (.ireturn, 1) := by decide +kernel
theorem dL_law_136 : decode cL_law 136 = .ok (.aload_n 1, 1) := by decide +kernel
theorem dL_law_137 : decode cL_law 137 = .ok (.aload_n 0, 1) := by decide +kernel
theorem dL_law_138 : decode cL_law 138 = .ok (.iload_n 3, 1) := by decide +kernel
theorem dL_law_139 : decode cL_law 139 = .ok (.iconst 1, 1) := by decide +kernel
theorem dL_law_140 : decode cL_law 140 = .ok (.iadd, 1) := by decide +kernel
theorem dL_law_141 : decode cL_law 141 = .ok (.iaload, 1) := by decide +kernel
theorem dL_law_142 : decode cL_law 142 = .ok (.invokevirtual 23, 3) := by decide +kernel
theorem dL_law_145 : decode cL_law 145 = .ok (.aload_n 2, 1) := by decide +kernel
theorem dL_law_146 : decode cL_law 146 = .ok (.aload_n 0, 1) := by decide +kernel
theorem dL_law_147 : decode cL_law 147 = .ok (.iload_n 3, 1) := by decide +kernel
theorem dL_law_148 : decode cL_law 148 = .ok (.iconst 1, 1) := by decide +kernel
theorem dL_law_149 : decode cL_law 149 = .ok (.iadd, 1) := by decide +kernel
theorem dL_law_150 : decode cL_law 150 = .ok (.iaload, 1) := by decide +kernel
theorem dL_law_151 : decode cL_law 151 = .ok (.invokevirtual 26, 3) := by decide +kernel
theorem dL_law_154 : decode cL_law 154 = .ok (.if_icmp .eq 140, 3) := by decide +kernel
theorem dL_law_157 : decode cL_law 157 = .ok (.iconst 0, 1) := by decide +kernel
theorem dL_law_158 : decode cL_law 158 = .ok (.ireturn, 1) := by decide +kernel
theorem dL_law_159 : decode cL_law 159 = .ok (.aload_n 1, 1) := by decide +kernel
theorem dL_law_160 : decode cL_law 160 = .ok (.aload_n 0, 1) := by decide +kernel
theorem dL_law_161 : decode cL_law 161 = .ok (.iload_n 3, 1) := by decide +kernel
theorem dL_law_162 : decode cL_law 162 = .ok (.iconst 1, 1) := by decide +kernel
theorem dL_law_163 : decode cL_law 163 = .ok (.iadd, 1) := by decide +kernel
theorem dL_law_164 : decode cL_law 164 = .ok (.iaload, 1) := by decide +kernel
theorem dL_law_165 : decode cL_law 165 = .ok (.invokevirtual 27, 3) := by decide +kernel
theorem dL_law_168 : decode cL_law 168 = .ok (.aload_n 2, 1) := by decide +kernel
theorem dL_law_169 : decode cL_law 169 = .ok (.aload_n 0, 1) := by decide +kernel
theorem dL_law_170 : decode cL_law 170 = .ok (.iload_n 3, 1) := by decide +kernel
theorem dL_law_171 : decode cL_law 171 = .ok (.iconst 1, 1) := by decide +kernel
theorem dL_law_172 : decode cL_law 172 = .ok (.iadd, 1) := by decide +kernel
theorem dL_law_173 : decode cL_law 173 = .ok (.iaload, 1) := by decide +kernel
theorem dL_law_174 : decode cL_law 174 = .ok (.invokevirtual 30, 3) := by decide +kernel
theorem dL_law_177 : decode cL_law 177 = .ok (.if_icmp .eq 117, 3) := by decide +kernel
theorem dL_law_180 : decode cL_law 180 = .ok (.iconst 0, 1) := by decide +kernel
theorem dL_law_181 : decode cL_law 181 = .ok (.ireturn, 1) := by decide +kernel
theorem dL_law_182 : decode cL_law 182 = .ok (.aload_n 1, 1) := by decide +kernel
theorem dL_law_183 : decode cL_law 183 = .ok (.aload_n 0, 1) := by decide +kernel
theorem dL_law_184 : decode cL_law 184 = .ok (.iload_n 3, 1) := by decide +kernel
theorem dL_law_185 : decode cL_law 185 = .ok (.iconst 1, 1) := by decide +kernel
theorem dL_law_186 : decode cL_law 186 = .ok (.iadd, 1) := by decide +kernel
theorem dL_law_187 : decode cL_law 187 = .ok (.iaload, 1) := by decide +kernel
theorem dL_law_188 : decode cL_law 188 = .ok (.invokevirtual 31, 3) := by decide +kernel
theorem dL_law_191 : decode cL_law 191 = .ok (.aload_n 2, 1) := by decide +kernel
theorem dL_law_192 : decode cL_law 192 = .ok (.aload_n 0, 1) := by decide +kernel
theorem dL_law_193 : decode cL_law 193 = .ok (.iload_n 3, 1) := by decide +kernel
theorem dL_law_194 : decode cL_law 194 = .ok (.iconst 1, 1) := by decide +kernel
theorem dL_law_195 : decode cL_law 195 = .ok (.iadd, 1) := by decide +kernel
theorem dL_law_196 : decode cL_law 196 = .ok (.iaload, 1) := by decide +kernel
theorem dL_law_197 : decode cL_law 197 = .ok (.invokevirtual 34, 3) := by decide +kernel
theorem dL_law_200 : decode cL_law 200 = .ok (.if_icmp .eq 94, 3) := by decide +kernel
theorem dL_law_203 : decode cL_law 203 = .ok (.iconst 0, 1) := by decide +kernel
theorem dL_law_204 : decode cL_law 204 = .ok (.ireturn, 1) := by decide +kernel
theorem dL_law_205 : decode cL_law 205 = .ok (.aload_n 1, 1) := by decide +kernel
theorem dL_law_206 : decode cL_law 206 = .ok (.aload_n 0, 1) := by decide +kernel
theorem dL_law_207 : decode cL_law 207 = .ok (.iload_n 3, 1) := by decide +kernel
theorem dL_law_208 : decode cL_law 208 = .ok (.iconst 1, 1) := by decide +kernel
theorem dL_law_209 : decode cL_law 209 = .ok (.iadd, 1) := by decide +kernel
theorem dL_law_210 : decode cL_law 210 = .ok (.iaload, 1) := by decide +kernel
theorem dL_law_211 : decode cL_law 211 = .ok (.aload_n 0, 1) := by decide +kernel
theorem dL_law_212 : decode cL_law 212 = .ok (.iload_n 3, 1) := by decide +kernel
theorem dL_law_213 : decode cL_law 213 = .ok (.iconst 2, 1) := by decide +kernel
theorem dL_law_214 : decode cL_law 214 = .ok (.iadd, 1) := by decide +kernel
theorem dL_law_215 : decode cL_law 215 = .ok (.iaload, 1) := by decide +kernel
theorem dL_law_216 : decode cL_law 216 = .ok (.invokevirtual 35, 3) := by decide +kernel
theorem dL_law_219 : decode cL_law 219 = .ok (.aload_n 2, 1) := by decide +kernel
theorem dL_law_220 : decode cL_law 220 = .ok (.aload_n 0, 1) := by decide +kernel
theorem dL_law_221 : decode cL_law 221 = .ok (.iload_n 3, 1) := by decide +kernel
theorem dL_law_222 : decode cL_law 222 = .ok (.iconst 1, 1) := by decide +kernel
theorem dL_law_223 : decode cL_law 223 = .ok (.iadd, 1) := by decide +kernel
theorem dL_law_224 : decode cL_law 224 = .ok (.iaload, 1) := by decide +kernel
theorem dL_law_225 : decode cL_law 225 = .ok (.aload_n 0, 1) := by decide +kernel
theorem dL_law_226 : decode cL_law 226 = .ok (.iload_n 3, 1) := by decide +kernel
theorem dL_law_227 : decode cL_law 227 = .ok (.iconst 2, 1) := by decide +kernel
theorem dL_law_228 : decode cL_law 228 = .ok (.iadd, 1) := by decide +kernel
theorem dL_law_229 : decode cL_law 229 = .ok (.iaload, 1) := by decide +kernel
theorem dL_law_230 : decode cL_law 230 = .ok (.invokevirtual 38, 3) := by decide +kernel
theorem dL_law_233 : decode cL_law 233 = .ok (.if_icmp .eq 61, 3) := by decide +kernel
theorem dL_law_236 : decode cL_law 236 = .ok (.iconst 0, 1) := by decide +kernel
theorem dL_law_237 : decode cL_law 237 = .ok (.ireturn, 1) := by decide +kernel
theorem dL_law_238 : decode cL_law 238 = .ok (.aload_n 1, 1) := by decide +kernel
theorem dL_law_239 : decode cL_law 239 = .ok (.aload_n 0, 1) := by decide +kernel
theorem dL_law_240 : decode cL_law 240 = .ok (.iload_n 3, 1) := by decide +kernel
theorem dL_law_241 : decode cL_law 241 = .ok (.iconst 1, 1) := by decide +kernel
theorem dL_law_242 : decode cL_law 242 = .ok (.iadd, 1) := by decide +kernel
theorem dL_law_243 : decode cL_law 243 = .ok (.iaload, 1) := by decide +kernel
theorem dL_law_244 : decode cL_law 244 = .ok (.invokevirtual 39, 3) := by decide +kernel
theorem dL_law_247 : decode cL_law 247 = .ok (.aload_n 2, 1) := by decide +kernel
theorem dL_law_248 : decode cL_law 248 = .ok (.aload_n 0, 1) := by decide +kernel
theorem dL_law_249 : decode cL_law 249 = .ok (.iload_n 3, 1) := by decide +kernel
theorem dL_law_250 : decode cL_law 250 = .ok (.iconst 1, 1) := by decide +kernel
theorem dL_law_251 : decode cL_law 251 = .ok (.iadd, 1) := by decide +kernel
theorem dL_law_252 : decode cL_law 252 = .ok (.iaload, 1) := by decide +kernel
theorem dL_law_253 : decode cL_law 253 = .ok (.invokevirtual 42, 3) := by decide +kernel
theorem dL_law_256 : decode cL_law 256 = .ok (.if_icmp .eq 38, 3) := by decide +kernel
theorem dL_law_259 : decode cL_law 259 = .ok (.iconst 0, 1) := by decide +kernel
theorem dL_law_260 : decode cL_law 260 = .ok (.ireturn, 1) := by decide +kernel
theorem dL_law_261 : decode cL_law 261 = .ok (.aload_n 1, 1) := by decide +kernel
theorem dL_law_262 : decode cL_law 262 = .ok (.aload_n 0, 1) := by decide +kernel
theorem dL_law_263 : decode cL_law 263 = .ok (.iload_n 3, 1) := by decide +kernel
theorem dL_law_264 : decode cL_law 264 = .ok (.iconst 1, 1) := by decide +kernel
theorem dL_law_265 : decode cL_law 265 = .ok (.iadd, 1) := by decide +kernel
theorem dL_law_266 : decode cL_law 266 = .ok (.iaload, 1) := by decide +kernel
theorem dL_law_267 : decode cL_law 267 = .ok (.aload_n 0, 1) := by decide +kernel
theorem dL_law_268 : decode cL_law 268 = .ok (.iload_n 3, 1) := by decide +kernel
theorem dL_law_269 : decode cL_law 269 = .ok (.iconst 2, 1) := by decide +kernel
theorem dL_law_270 : decode cL_law 270 = .ok (.iadd, 1) := by decide +kernel
theorem dL_law_271 : decode cL_law 271 = .ok (.iaload, 1) := by decide +kernel
theorem dL_law_272 : decode cL_law 272 = .ok (.invokevirtual 43, 3) := by decide +kernel
theorem dL_law_275 : decode cL_law 275 = .ok (.aload_n 2, 1) := by decide +kernel
theorem dL_law_276 : decode cL_law 276 = .ok (.aload_n 0, 1) := by decide +kernel
theorem dL_law_277 : decode cL_law 277 = .ok (.iload_n 3, 1) := by decide +kernel
theorem dL_law_278 : decode cL_law 278 = .ok (.iconst 1, 1) := by decide +kernel
theorem dL_law_279 : decode cL_law 279 = .ok (.iadd, 1) := by decide +kernel
theorem dL_law_280 : decode cL_law 280 = .ok (.iaload, 1) := by decide +kernel
theorem dL_law_281 : decode cL_law 281 = .ok (.aload_n 0, 1) := by decide +kernel
theorem dL_law_282 : decode cL_law 282 = .ok (.iload_n 3, 1) := by decide +kernel
theorem dL_law_283 : decode cL_law 283 = .ok (.iconst 2, 1) := by decide +kernel
theorem dL_law_284 : decode cL_law 284 = .ok (.iadd, 1) := by decide +kernel
theorem dL_law_285 : decode cL_law 285 = .ok (.iaload, 1) := by decide +kernel
theorem dL_law_286 : decode cL_law 286 = .ok (.invokevirtual 46, 3) := by decide +kernel
theorem dL_law_289 : decode cL_law 289 = .ok (.if_icmp .eq 5, 3) := by decide +kernel
theorem dL_law_292 : decode cL_law 292 = .ok (.iconst 0, 1) := by decide +kernel
theorem dL_law_293 : decode cL_law 293 = .ok (.ireturn, 1) := by decide +kernel
theorem dL_law_294 : decode cL_law 294 = .ok (.iinc 3 3, 3) := by decide +kernel
theorem dL_law_297 : decode cL_law 297 = .ok (.goto (-279), 3) := by decide +kernel
theorem dL_law_300 : decode cL_law 300 = .ok (.iconst 1, 1) := by decide +kernel
theorem dL_law_301 : decode cL_law 301 = .ok (.ireturn, 1) := by decide +kernel

abbrev vwCl : List vw_C := [(RX0, TX0, 3), (RX1, TX1, 11)]
end
section
set_option maxRecDepth 100000
/-! BASE LAYER: a machine state as (ghost state, pc, locals by place, stack); one row an instruction; all ints as numbers -/
/-- locals by place: a list of length nL; none: nothing known -/
def LV (ls : Array Slot) (nL : Nat) (lv : List (Option Value)) : Prop := ls.size = nL ∧ lv_wf ls ∧ lv.length = nL ∧ ∀ (i : Nat) (v : Value), lv[i]? = some (some v) → ls[i]? = some (.val v) ∧ v.category = 1
def lvAsc (lv : List (Option Value)) : List (Nat × Value) := lv.zipIdx.filterMap (fun q => q.1.map (fun v => (q.2, v)))
theorem lvAsc_mem {lv : List (Option Value)} {i : Nat} {v : Value} : (i, v) ∈ lvAsc lv ↔ lv[i]? = some (some v) := by
  unfold lvAsc
  rw [List.mem_filterMap]
  constructor
  · rintro ⟨⟨o, j⟩, h1, h2⟩
    cases o with
    | none => simp at h2
    | some w =>
      simp at h2
      obtain ⟨rfl, rfl⟩ := h2
      exact List.mk_mem_zipIdx_iff_getElem?.mp h1
  · intro h
    exact ⟨(some v, i), List.mk_mem_zipIdx_iff_getElem?.mpr h, rfl⟩
theorem LV.has {ls : Array Slot} {nL : Nat} {lv : List (Option Value)} (h : LV ls nL lv) : lv_has ls nL (lvAsc lv) :=
  ⟨h.1, h.2.1, fun q hq => (h.2.2.2 q.1 q.2 (lvAsc_mem.mp hq)).1⟩
theorem LV.get {ls : Array Slot} {nL : Nat} {lv : List (Option Value)} (h : LV ls nL lv) {i : Nat} {v : Value} (hi : lv[i]? = some (some v)) : ls[i]? = some (.val v) := (h.2.2.2 i v hi).1
/-- a store into a local -/
theorem LV.store {ls ls' : Array Slot} {nL i : Nat} {lv : List (Option Value)} {v : Value} (h : LV ls nL lv) (hi : i < lv.length) (hc : v.category = 1)
    (h' : lv_has ls' nL ((i, v) :: (lvAsc lv).filter (fun q => !(q.1 == i) && !(q.1 + 1 == i && q.2.category == 2)))) : LV ls' nL (lv.set i (some v)) := by
  refine ⟨h'.1, h'.2.1, by rw [List.length_set]; exact h.2.2.1, fun j w hj => ?_⟩
  by_cases e : i = j
  · subst e
    rw [List.getElem?_set_self hi] at hj
    cases hj
    exact ⟨h'.2.2 (i, v) List.mem_cons_self, hc⟩
  · rw [List.getElem?_set_ne e] at hj
    have hw := h.2.2.2 j w hj
    refine ⟨h'.2.2 (j, w) (List.mem_cons_of_mem _ (List.mem_filter.mpr ⟨lvAsc_mem.mpr hj, ?_⟩)), hw.2⟩
    have e1 : ¬ j = i := fun q => e q.symm
    simp [hw.2, e1]
theorem lv_args_mem : ∀ (vs : List Value) (k i : Nat) (v : Value), (∀ w ∈ vs, w.category = 1) → vs[i]? = some v → (k + i, v) ∈ lv_args k vs
  | [], _, _, _, _, h => by simp at h
  | w :: vs, k, 0, v, hc, h => by
    simp at h
    subst h
    simp [lv_args]
  | w :: vs, k, i + 1, v, hc, h => by
    have h1 : vs[i]? = some v := by simpa using h
    have hw : w.category = 1 := hc w List.mem_cons_self
    have := lv_args_mem vs (k + 1) i v (fun x hx => hc x (List.mem_cons_of_mem _ hx)) h1
    have e : k + 1 + i = k + (i + 1) := by omega
    rw [e] at this
    simp [lv_args, hw, this]
theorem LV.entry {vs : List Value} {nL : Nat} (hc : ∀ w ∈ vs, w.category = 1) (hn : vs.length ≤ nL) : LV ((lg_sl vs ++ List.replicate (nL - (lg_sl vs).length) Slot.unset).toArray) nL (vs.map some ++ List.replicate (nL - vs.length) none) := by
  have hlen : ∀ ws : List Value, (∀ w ∈ ws, w.category = 1) → (lg_sl ws).length = ws.length := by
    intro ws
    induction ws with
    | nil => intro _; rfl
    | cons w ws ih =>
      intro h
      have h1 := h w List.mem_cons_self
      have h2 := ih (fun x hx => h x (List.mem_cons_of_mem _ hx))
      simp [lg_sl, h1] at h2 ⊢
      omega
  have h := lv_entry vs (n := nL) (by rw [hlen vs hc]; exact hn)
  refine ⟨h.1, h.2.1, by simp; omega, fun i v hi => ?_⟩
  have h1 : vs[i]? = some v := by
    rw [List.getElem?_append] at hi
    split at hi
    · simpa using hi
    · rw [List.getElem?_replicate] at hi
      split at hi <;> simp at hi
  have h2 := lv_args_mem vs 0 i v hc h1
  rw [Nat.zero_add] at h2
  exact ⟨h.2.2 (i, v) h2, hc v (List.mem_of_getElem? h1)⟩
theorem LV.weak {ls : Array Slot} {nL : Nat} {lv lv' : List (Option Value)} (h : LV ls nL lv) (hl : lv'.length = lv.length) (hw : ∀ (i : Nat) (v : Value), lv'[i]? = some (some v) → lv[i]? = some (some v)) : LV ls nL lv' :=
  ⟨h.1, h.2.1, hl.trans h.2.2.1, fun i v hi => h.2.2.2 i v (hw i v hi)⟩
/-- what is fixed through a method: program, environment, room, start, method, arguments, frames below, method, code, own cells, cells and slots made -/
abbrev Fx : Type := Program × Env × Room × State × MethodId × Array Value × List Frame × Method × Code × (Nat → Prop) × Nat × Nat
abbrev fp (F : Fx) : Program := F.1
abbrev fe (F : Fx) : Env := F.2.1
abbrev fR (F : Fx) : Room := F.2.2.1
abbrev fs (F : Fx) : State := F.2.2.2.1
abbrev fm (F : Fx) : MethodId := F.2.2.2.2.1
abbrev fa (F : Fx) : Array Value := F.2.2.2.2.2.1
abbrev fb (F : Fx) : List Frame := F.2.2.2.2.2.2.1
abbrev fme (F : Fx) : Method := F.2.2.2.2.2.2.2.1
abbrev fc (F : Fx) : Code := F.2.2.2.2.2.2.2.2.1
abbrev fA (F : Fx) : Nat → Prop := F.2.2.2.2.2.2.2.2.2.1
abbrev fk (F : Fx) : Nat := F.2.2.2.2.2.2.2.2.2.2.1
abbrev fn (F : Fx) : Nat := F.2.2.2.2.2.2.2.2.2.2.2
def ZZ (l : Launch) (D : va_G) (F : Fx) (Q : State → Prop) (nL : Nat) {S : Type} (cells : S → va_W) (st : S) (pc : Nat) (lv : List (Option Value)) (stk : List Value) : Prop :=
  ∀ (H : Heap) (locs : List Loc) (ls : Array Slot), va_P D vwCl (cells st) H → va_D (fA F) (cells st) → va_S (fA F) (fs F).heap H locs → LV ls nL lv → W (fp F) l (fe F) (fR F) (fs F) (fm F) (fa F) (fb F) (fme F) (fc F) H locs (fk F) (fn F) Q (F0 (fm F) pc ls stk)
def EE (D : va_G) (tys : List (ClassId × FieldType)) (F : Fx) (cc : ByteArray) (nL : Nat) (own : String) (lvl : Nat) : Prop :=
  (fp F).tables.exec = Jvm.exec ∧ (fc F).code = cc ∧ (fc F).maxLocals = nL ∧ (fs F).vm.findClass own = some (fm F).cls ∧ (∀ w ∈ lw_all, w.before (fa F) (fs F) = true) ∧ va_K D vwCl tys (fs F) ∧ (∀ q : Nat, (fs F).heap.size ≤ q → fA F q) ∧
  lvl ≤ (fR F).frames ∧ 40 * lvl ≤ (fR F).locals ∧ fk F ≤ (fR F).cells ∧ fn F ≤ (fR F).slots
def rmN (k : Nat) : Room := { frames := k, cells := 0, slots := 0, locals := 40 * k }
def BB (D : va_G) (tys : List (ClassId × FieldType)) {S : Type} (cells : S → va_W) (A : Nat → Prop) (u : S) (t : State) : Prop := va_P D vwCl (cells u) t.heap ∧ va_K D vwCl tys t ∧ va_D A (cells u)
def PP (D : va_G) (tys : List (ClassId × FieldType)) {S : Type} (cells : S → va_W) (vs : List Value) (st : S) (sz : Nat) : Array Value → State → Prop :=
  va_Pc vs (fun U => U.heap.size = sz ∧ va_P D vwCl (cells st) U.heap ∧ va_K D vwCl tys U ∧ va_D (fun _ => True) (cells st))
/-- a method's contract: int or boolean answer -/
def CtI (l : Launch) (D : va_G) (tys : List (ClassId × FieldType)) {S : Type} (cells : S → va_W) (y : MethodName) (cd : ByteArray) (nL : Nat) (rt : FieldType) (lvl : Nat) (vs : List Value) (st : S) (post : Int32 → S → Prop) : Prop :=
  ∀ sz : Nat, Met l y (ws_ y cd nL (some rt)) (rmN lvl) (PP D tys cells vs st sz) (va_Qi post (BB D tys cells (va_A (cells st) sz)) (va_A (cells st) sz)) 0 0 (va_A (cells st) sz)
/-- a method's contract: no answer -/
def CtV (l : Launch) (D : va_G) (tys : List (ClassId × FieldType)) {S : Type} (cells : S → va_W) (y : MethodName) (cd : ByteArray) (nL : Nat) (lvl : Nat) (vs : List Value) (st : S) (post : S → Prop) : Prop :=
  ∀ sz : Nat, Met l y (ws_ y cd nL none) (rmN lvl) (PP D tys cells vs st sz) (va_Qv post (BB D tys cells (va_A (cells st) sz)) (va_A (cells st) sz)) 0 0 (va_A (cells st) sz)
section ZROWS
variable {l : Launch} {D : va_G} {tys : List (ClassId × FieldType)} {F : Fx} {Q : State → Prop} {nL : Nat} {S : Type} {cells : S → va_W} {st : S} {pc : Nat} {lv : List (Option Value)} {stk : List Value} {cc : ByteArray} {own : String} {lvl : Nat}
theorem z_start {y : MethodName} {rm : Room} {sz : Nat} {ret : Option FieldType} {vs : List Value} {Qc : Array Value → State → Outcome → State → Prop} (hy : plainName y.cls = true) (hown : y.cls = own) (hc : ∀ w ∈ vs, w.category = 1) (hn : vs.length ≤ nL) (hlv : vs.map some ++ List.replicate (nL - vs.length) none = lv) (hrm : rm = rmN lvl)
    (body : ∀ (F : Fx), EE D tys F cc nL own lvl → (fme F).sig.returnType = ret → (fme F).locks = false → fA F = va_A (cells st) sz → fk F = 0 → fn F = 0 → ZZ l D F (MQ (fb F) Qc (fa F) (fs F) 0 0 (va_A (cells st) sz)) nL cells st 0 lv []) :
    Met l y (ws_ y cc nL ret) rm (PP D tys cells vs st sz) Qc 0 0 (va_A (cells st) sz) := by
  subst hrm
  refine Met.ofW (cc := cc) (maxL := nL) (ret := ret) hy rfl ?_
  intro p e s m args below meth c s₁ B hml hv
  obtain ⟨rfl, hsz, hP, hK, hD0⟩ := hv
  have hts := atoms_spec (ws := ws_ y cc nL ret) B.pre
  have hts : ∀ w ∈ lw_all, w.before _ s = true := fun w h => hts w (List.mem_cons_of_mem _ h)
  have hown2 : s.vm.findClass own = some m.cls := by rw [← hown]; exact findClass_of_methodNamed B.named
  subst hsz
  have hD := hD0.self (sz := s.heap.size)
  rw [lg_entry_eq]
  have hl := LV.entry (nL := nL) hc hn
  rw [hlv] at hl
  exact body (p, e, _, s, m, _, below, meth, c, va_A (cells st) s.heap.size, 0, 0) ⟨B.exec, B.bytes, hml, hown2, hts, hK, fun q h => Or.inr h, Nat.le_refl _, Nat.le_refl _, Nat.le_refl _, Nat.le_refl _⟩ B.returns B.notSynchronized rfl rfl rfl s.heap [] _ hP hD va_S.rf hl
theorem z_ireti {post : Int32 → S → Prop} {r : Int32} (E : EE D tys F cc nL own lvl) (hr : (fme F).sig.returnType = some .int) (hk : (fme F).locks = false) (hdg : decode cc pc = .ok (.ireturn, 1)) (hp : post r st) :
    ZZ l D F (MQ (fb F) (va_Qi post (BB D tys cells (fA F)) (fA F)) (fa F) (fs F) (fk F) (fn F) (fA F)) nL cells st pc lv [.int r] := by
  intro H locs ls hP hD hS hl
  exact W.iret E.1 E.2.1 hr (fun t ht hW => ⟨⟨r, st, rfl, hp, by rw [ht]; exact hP, va_K.moved hW.alike E.2.2.2.2.2.1, hD⟩, hS.F ht⟩) hS.2.2 hdg hk
theorem z_zreti {post : Int32 → S → Prop} {r : Int32} (E : EE D tys F cc nL own lvl) (hr : (fme F).sig.returnType = some .boolean) (hk : (fme F).locks = false) (hn : narrow .boolean (.int r) = .int r) (hdg : decode cc pc = .ok (.ireturn, 1)) (hp : post r st) :
    ZZ l D F (MQ (fb F) (va_Qi post (BB D tys cells (fA F)) (fA F)) (fa F) (fs F) (fk F) (fn F) (fA F)) nL cells st pc lv [.int r] := by
  intro H locs ls hP hD hS hl
  exact W.zret E.1 E.2.1 hr hn (fun t ht hW => ⟨⟨r, st, rfl, hp, by rw [ht]; exact hP, va_K.moved hW.alike E.2.2.2.2.2.1, hD⟩, hS.F ht⟩) hS.2.2 hdg hk
theorem z_vreti {post : S → Prop} (E : EE D tys F cc nL own lvl) (hr : (fme F).sig.returnType = none) (hk : (fme F).locks = false) (hdg : decode cc pc = .ok (.return_, 1)) (hp : post st) :
    ZZ l D F (MQ (fb F) (va_Qv post (BB D tys cells (fA F)) (fA F)) (fa F) (fs F) (fk F) (fn F) (fA F)) nL cells st pc lv [] := by
  intro H locs ls hP hD hS hl
  exact W.vret E.1 E.2.1 hr (fun t ht hW => ⟨⟨st, rfl, hp, by rw [ht]; exact hP, va_K.moved hW.alike E.2.2.2.2.2.1, hD⟩, hS.F ht⟩) hS.2.2 hdg hk
/-- a contract out of a walk: int answer -/
theorem CtI.of {y : MethodName} {vs : List Value} {post : Int32 → S → Prop} (own : String) (lv : List (Option Value)) (hy : plainName y.cls = true) (hown : y.cls = own) (hc : ∀ w ∈ vs, w.category = 1) (hn : vs.length ≤ nL) (hlv : vs.map some ++ List.replicate (nL - vs.length) none = lv)
    (body : ∀ (F : Fx) (Q : State → Prop), EE D tys F cc nL own lvl → (∀ {u : S} {pc : Nat} {lv : List (Option Value)} {r : Int32}, decode cc pc = .ok (.ireturn, 1) → post r u → ZZ l D F Q nL cells u pc lv [.int r]) → ZZ l D F Q nL cells st 0 lv []) :
    CtI l D tys cells y cc nL .int lvl vs st post := by
  intro sz
  refine z_start hy hown hc hn hlv rfl (fun F E hr hk hA h0 h1 => body F _ E (fun {u pc lv r} hdg hp => ?_))
  have h := z_ireti (l := l) (lv := lv) (cells := cells) (st := u) (post := post) (r := r) E hr hk hdg hp
  rw [h0, h1, hA] at h
  exact h
theorem CtI.ofz {y : MethodName} {vs : List Value} {post : Int32 → S → Prop} (own : String) (lv : List (Option Value)) (hy : plainName y.cls = true) (hown : y.cls = own) (hc : ∀ w ∈ vs, w.category = 1) (hn : vs.length ≤ nL) (hlv : vs.map some ++ List.replicate (nL - vs.length) none = lv)
    (body : ∀ (F : Fx) (Q : State → Prop), EE D tys F cc nL own lvl → (∀ {u : S} {pc : Nat} {lv : List (Option Value)} {r : Nat}, decode cc pc = .ok (.ireturn, 1) → r ≤ 1 → post (nI r) u → ZZ l D F Q nL cells u pc lv [.int (nI r)]) → ZZ l D F Q nL cells st 0 lv []) :
    CtI l D tys cells y cc nL .boolean lvl vs st post := by
  intro sz
  refine z_start hy hown hc hn hlv rfl (fun F E hr hk hA h0 h1 => body F _ E (fun {u pc lv r} hdg hb hp => ?_))
  have hb2 : narrow .boolean (.int (nI r)) = .int (nI r) := by
    rcases (show r = 0 ∨ r = 1 by omega) with q | q <;> subst q <;> decide
  have h := z_zreti (l := l) (lv := lv) (cells := cells) (st := u) (post := post) (r := nI r) E hr hk hb2 hdg hp
  rw [h0, h1, hA] at h
  exact h
theorem CtV.of {y : MethodName} {vs : List Value} {post : S → Prop} (own : String) (lv : List (Option Value)) (hy : plainName y.cls = true) (hown : y.cls = own) (hc : ∀ w ∈ vs, w.category = 1) (hn : vs.length ≤ nL) (hlv : vs.map some ++ List.replicate (nL - vs.length) none = lv)
    (body : ∀ (F : Fx) (Q : State → Prop), EE D tys F cc nL own lvl → (∀ {u : S} {pc : Nat} {lv : List (Option Value)}, decode cc pc = .ok (.return_, 1) → post u → ZZ l D F Q nL cells u pc lv []) → ZZ l D F Q nL cells st 0 lv []) :
    CtV l D tys cells y cc nL lvl vs st post := by
  intro sz
  refine z_start hy hown hc hn hlv rfl (fun F E hr hk hA h0 h1 => body F _ E (fun {u pc lv} hdg hp => ?_))
  have h := z_vreti (l := l) (lv := lv) (cells := cells) (st := u) (post := post) E hr hk hdg hp
  rw [h0, h1, hA] at h
  exact h
/-- fewer locals known -/
theorem z_weak {lv' : List (Option Value)} (hl : lv'.length = lv.length) (hw : ∀ (i : Nat) (v : Value), lv'[i]? = some (some v) → lv[i]? = some (some v)) (k : ZZ l D F Q nL cells st pc lv' stk) : ZZ l D F Q nL cells st pc lv stk :=
  fun H locs ls hP hD hS hls => k H locs ls hP hD hS (hls.weak hl hw)
def lvSub : List (Option Value) → List (Option Value) → Prop
  | [], [] => True
  | none :: a, _ :: b => lvSub a b
  | some v :: a, some w :: b => v = w ∧ lvSub a b
  | _, _ => False
theorem lvSub_spec : ∀ (a b : List (Option Value)), lvSub a b → a.length = b.length ∧ ∀ (i : Nat) (v : Value), a[i]? = some (some v) → b[i]? = some (some v)
  | [], [], _ => ⟨rfl, fun i v h => h⟩
  | none :: a, x :: b, h => by
    obtain ⟨h1, h2⟩ := lvSub_spec a b (by simpa [lvSub] using h)
    refine ⟨by simp [h1], fun i v hi => ?_⟩
    cases i with
    | zero => simp at hi
    | succ i => simpa using h2 i v (by simpa using hi)
  | some w :: a, some x :: b, h => by
    have h' : w = x ∧ lvSub a b := by simpa [lvSub] using h
    obtain ⟨h1, h2⟩ := lvSub_spec a b h'.2
    refine ⟨by simp [h1], fun i v hi => ?_⟩
    cases i with
    | zero => rw [← h'.1]; exact hi
    | succ i => simpa using h2 i v (by simpa using hi)
  | [], _ :: _, h => by simp [lvSub] at h
  | some _ :: _, none :: _, h => by simp [lvSub] at h
  | some _ :: _, [], h => by simp [lvSub] at h
  | none :: _, [], h => by simp [lvSub] at h
theorem z_forget (lv' : List (Option Value)) (h : lvSub lv' lv) (k : ZZ l D F Q nL cells st pc lv' stk) : ZZ l D F Q nL cells st pc lv stk :=
  z_weak (lvSub_spec lv' lv h).1 (lvSub_spec lv' lv h).2 k
theorem z_ildG (E : EE D tys F cc nL own lvl) {v : Int32} {i : Nat} (hi : lv[i]? = some (some (.int v))) (hdg : decode cc pc = .ok (.iload i, 2)) (k : ZZ l D F Q nL cells st (pc + 2) lv (.int v :: stk)) : ZZ l D F Q nL cells st pc lv stk :=
  fun H locs ls hP hD hS hl => lv_iload E.1 E.2.1 hdg (hl.get hi) (k H locs ls hP hD hS hl)
theorem z_ildnG (E : EE D tys F cc nL own lvl) {v : Int32} {i : Fin 4} (hi : lv[(i : Nat)]? = some (some (.int v))) (hdg : decode cc pc = .ok (.iload_n i, 1)) (k : ZZ l D F Q nL cells st (pc + 1) lv (.int v :: stk)) : ZZ l D F Q nL cells st pc lv stk :=
  fun H locs ls hP hD hS hl => lv_iload_n E.1 E.2.1 hdg rfl (hl.get hi) (k H locs ls hP hD hS hl)
theorem z_aldnG (E : EE D tys F cc nL own lvl) {v : Nat} {i : Fin 4} (hi : lv[(i : Nat)]? = some (some (.ref v))) (hdg : decode cc pc = .ok (.aload_n i, 1)) (k : ZZ l D F Q nL cells st (pc + 1) lv (.ref v :: stk)) : ZZ l D F Q nL cells st pc lv stk :=
  fun H locs ls hP hD hS hl => lv_aload_n E.1 E.2.1 hdg rfl (hl.get hi) (k H locs ls hP hD hS hl)
theorem z_istG (E : EE D tys F cc nL own lvl) {v : Int32} {i : Nat} (hi : i < lv.length) (hdg : decode cc pc = .ok (.istore i, 2)) (k : ZZ l D F Q nL cells st (pc + 2) (lv.set i (some (.int v))) stk) : ZZ l D F Q nL cells st pc lv (.int v :: stk) :=
  fun H locs ls hP hD hS hl => lv_istore E.1 E.2.1 hdg hl.has (by rw [← hl.2.2.1]; exact hi) rfl (fun ls' h' => k H locs ls' hP hD hS (hl.store hi rfl h'))
theorem z_istnG (E : EE D tys F cc nL own lvl) {v : Int32} {i : Fin 4} (hi : (i : Nat) < lv.length) (hdg : decode cc pc = .ok (.istore_n i, 1)) (k : ZZ l D F Q nL cells st (pc + 1) (lv.set i (some (.int v))) stk) : ZZ l D F Q nL cells st pc lv (.int v :: stk) :=
  fun H locs ls hP hD hS hl => lv_istore_n E.1 E.2.1 hdg rfl hl.has (by rw [← hl.2.2.1]; exact hi) rfl (fun ls' h' => k H locs ls' hP hD hS (hl.store hi rfl h'))
theorem z_incG (E : EE D tys F cc nL own lvl) {x v : Int32} {i : Nat} {n : Int} (hi : lv[i]? = some (some (.int x))) (hv : x + Int32.ofInt n = v) (hdg : decode cc pc = .ok (.iinc i n, 3)) (k : ZZ l D F Q nL cells st (pc + 3) (lv.set i (some (.int v))) stk) : ZZ l D F Q nL cells st pc lv stk := by
  intro H locs ls hP hD hS hl
  have hlt : i < lv.length := (List.getElem?_eq_some_iff.mp hi).1
  obtain ⟨j, hj⟩ := List.getElem?_of_mem (lvAsc_mem.mpr hi)
  exact lv_iinc E.1 E.2.1 hdg hl.has hj hv (by rw [← hl.2.2.1]; exact hlt) rfl (fun ls' h' => k H locs ls' hP hD hS (hl.store hlt rfl h'))
theorem inc1 (v : Nat) : nI v + Int32.ofInt 1 = nI (v + 1) := by
  rw [show Int32.ofInt 1 = 1 by decide]; exact nI_1 v
theorem dec1 {v : Nat} (hv : 0 < v) : nI v + Int32.ofInt (-1) = nI (v - 1) := by
  rw [show Int32.ofInt (-1) = -1 by decide]; exact sb_m1 hv
theorem z_iconst (E : EE D tys F cc nL own lvl) {n : Int} (v : Nat) (hv : Int32.ofInt n = nI v) (hdg : decode cc pc = .ok (.iconst n, 1)) (k : ZZ l D F Q nL cells st (pc + 1) lv (.int (nI v) :: stk)) : ZZ l D F Q nL cells st pc lv stk :=
  fun H locs ls hP hD hS hl => lv_iconst E.1 E.2.1 hdg hv (k H locs ls hP hD hS hl)
theorem z_ic0 (E : EE D tys F cc nL own lvl) (hdg : decode cc pc = .ok (.iconst 0, 1)) (k : ZZ l D F Q nL cells st (pc + 1) lv (.int (nI 0) :: stk)) : ZZ l D F Q nL cells st pc lv stk := z_iconst E 0 (by decide) hdg k
theorem z_ic1 (E : EE D tys F cc nL own lvl) (hdg : decode cc pc = .ok (.iconst 1, 1)) (k : ZZ l D F Q nL cells st (pc + 1) lv (.int (nI 1) :: stk)) : ZZ l D F Q nL cells st pc lv stk := z_iconst E 1 (by decide) hdg k
theorem z_ic2 (E : EE D tys F cc nL own lvl) (hdg : decode cc pc = .ok (.iconst 2, 1)) (k : ZZ l D F Q nL cells st (pc + 1) lv (.int (nI 2) :: stk)) : ZZ l D F Q nL cells st pc lv stk := z_iconst E 2 (by decide) hdg k
theorem z_ic3 (E : EE D tys F cc nL own lvl) (hdg : decode cc pc = .ok (.iconst 3, 1)) (k : ZZ l D F Q nL cells st (pc + 1) lv (.int (nI 3) :: stk)) : ZZ l D F Q nL cells st pc lv stk := z_iconst E 3 (by decide) hdg k
theorem z_ic4 (E : EE D tys F cc nL own lvl) (hdg : decode cc pc = .ok (.iconst 4, 1)) (k : ZZ l D F Q nL cells st (pc + 1) lv (.int (nI 4) :: stk)) : ZZ l D F Q nL cells st pc lv stk := z_iconst E 4 (by decide) hdg k
theorem z_ic5 (E : EE D tys F cc nL own lvl) (hdg : decode cc pc = .ok (.iconst 5, 1)) (k : ZZ l D F Q nL cells st (pc + 1) lv (.int (nI 5) :: stk)) : ZZ l D F Q nL cells st pc lv stk := z_iconst E 5 (by decide) hdg k
theorem z_icm1 (E : EE D tys F cc nL own lvl) (hdg : decode cc pc = .ok (.iconst (-1), 1)) (k : ZZ l D F Q nL cells st (pc + 1) lv (.int (-1) :: stk)) : ZZ l D F Q nL cells st pc lv stk :=
  fun H locs ls hP hD hS hl => lv_iconst E.1 E.2.1 hdg (by decide) (k H locs ls hP hD hS hl)
theorem z_bipush (E : EE D tys F cc nL own lvl) {n : Int} (v : Nat) (hv : (Int8.ofInt n).toInt32 = nI v) (hdg : decode cc pc = .ok (.bipush n, 2)) (k : ZZ l D F Q nL cells st (pc + 2) lv (.int (nI v) :: stk)) : ZZ l D F Q nL cells st pc lv stk :=
  fun H locs ls hP hD hS hl => lv_bipush E.1 E.2.1 hdg hv (k H locs ls hP hD hS hl)
theorem z_bipushR (E : EE D tys F cc nL own lvl) {n : Int} (v : Int32) (hv : (Int8.ofInt n).toInt32 = v) (hdg : decode cc pc = .ok (.bipush n, 2)) (k : ZZ l D F Q nL cells st (pc + 2) lv (.int v :: stk)) : ZZ l D F Q nL cells st pc lv stk :=
  fun H locs ls hP hD hS hl => lv_bipush E.1 E.2.1 hdg hv (k H locs ls hP hD hS hl)
theorem z_sipush (E : EE D tys F cc nL own lvl) {n : Int} (v : Nat) (hv : (Int16.ofInt n).toInt32 = nI v) (hdg : decode cc pc = .ok (.sipush n, 3)) (k : ZZ l D F Q nL cells st (pc + 3) lv (.int (nI v) :: stk)) : ZZ l D F Q nL cells st pc lv stk :=
  fun H locs ls hP hD hS hl => lv_sipush E.1 E.2.1 hdg hv (k H locs ls hP hD hS hl)
theorem z_dup (E : EE D tys F cc nL own lvl) {v : Value} (hv : v.category = 1) (hdg : decode cc pc = .ok (.dup, 1)) (k : ZZ l D F Q nL cells st (pc + 1) lv (v :: v :: stk)) : ZZ l D F Q nL cells st pc lv (v :: stk) :=
  fun H locs ls hP hD hS hl => lv_dup E.1 E.2.1 hdg hv (k H locs ls hP hD hS hl)
theorem z_pop (E : EE D tys F cc nL own lvl) {v : Int32} (hdg : decode cc pc = .ok (.pop, 1)) (k : ZZ l D F Q nL cells st (pc + 1) lv stk) : ZZ l D F Q nL cells st pc lv (.int v :: stk) :=
  fun H locs ls hP hD hS hl => lv_pop E.1 E.2.1 hdg rfl (k H locs ls hP hD hS hl)
theorem z_goto (E : EE D tys F cc nL own lvl) {off : Int} (tgt : Nat) (hdg : decode cc pc = .ok (.goto off, 3)) (ht : (pc : Int) + off = (tgt : Int)) (k : ZZ l D F Q nL cells st tgt lv stk) : ZZ l D F Q nL cells st pc lv stk :=
  fun H locs ls hP hD hS hl => lv_goto E.1 E.2.1 hdg ht (k H locs ls hP hD hS hl)
theorem z_top {x : Int32} (y : Int32) (h : x = y) (k : ZZ l D F Q nL cells st pc lv (.int y :: stk)) : ZZ l D F Q nL cells st pc lv (.int x :: stk) := by rw [h]; exact k
theorem z_st (st' : S) (h : st = st') (k : ZZ l D F Q nL cells st' pc lv stk) : ZZ l D F Q nL cells st pc lv stk := by rw [h]; exact k
theorem z_topN {x : Nat} (y : Nat) (h : x = y) (k : ZZ l D F Q nL cells st pc lv (.int (nI y) :: stk)) : ZZ l D F Q nL cells st pc lv (.int (nI x) :: stk) := by rw [h]; exact k
theorem z_iadd (E : EE D tys F cc nL own lvl) {a b : Nat} (hdg : decode cc pc = .ok (.iadd, 1)) (k : ZZ l D F Q nL cells st (pc + 1) lv (.int (nI (a + b)) :: stk)) : ZZ l D F Q nL cells st pc lv (.int (nI b) :: .int (nI a) :: stk) := by
  rw [← nI_add] at k
  exact fun H locs ls hP hD hS hl => lv_iadd E.1 E.2.1 hdg (k H locs ls hP hD hS hl)
theorem z_imul (E : EE D tys F cc nL own lvl) {a b : Nat} (hdg : decode cc pc = .ok (.imul, 1)) (k : ZZ l D F Q nL cells st (pc + 1) lv (.int (nI (a * b)) :: stk)) : ZZ l D F Q nL cells st pc lv (.int (nI b) :: .int (nI a) :: stk) := by
  rw [← pk_mul] at k
  exact fun H locs ls hP hD hS hl => lv_imul E.1 E.2.1 hdg (k H locs ls hP hD hS hl)
theorem z_isub (E : EE D tys F cc nL own lvl) {a b : Nat} (hab : b ≤ a) (hdg : decode cc pc = .ok (.isub, 1)) (k : ZZ l D F Q nL cells st (pc + 1) lv (.int (nI (a - b)) :: stk)) : ZZ l D F Q nL cells st pc lv (.int (nI b) :: .int (nI a) :: stk) := by
  rw [← pk_sub hab] at k
  exact fun H locs ls hP hD hS hl => lv_isub E.1 E.2.1 hdg (k H locs ls hP hD hS hl)
theorem z_isubR (E : EE D tys F cc nL own lvl) {a b : Int32} (hdg : decode cc pc = .ok (.isub, 1)) (k : ZZ l D F Q nL cells st (pc + 1) lv (.int (a - b) :: stk)) : ZZ l D F Q nL cells st pc lv (.int b :: .int a :: stk) :=
  fun H locs ls hP hD hS hl => lv_isub E.1 E.2.1 hdg (k H locs ls hP hD hS hl)
theorem z_idiv (E : EE D tys F cc nL own lvl) {a b : Nat} (ha : a < 2147483648) (h0 : 0 < b) (hb : b < 2147483648) (hdg : decode cc pc = .ok (.idiv, 1)) (k : ZZ l D F Q nL cells st (pc + 1) lv (.int (nI (a / b)) :: stk)) : ZZ l D F Q nL cells st pc lv (.int (nI b) :: .int (nI a) :: stk) := by
  rw [← pk_div ha h0 hb] at k
  exact fun H locs ls hP hD hS hl => lv_idiv E.1 E.2.1 hdg (nI_ne0 h0 hb) (k H locs ls hP hD hS hl)
theorem z_irem (E : EE D tys F cc nL own lvl) {a b : Nat} (ha : a < 2147483648) (h0 : 0 < b) (hb : b < 2147483648) (hdg : decode cc pc = .ok (.irem, 1)) (k : ZZ l D F Q nL cells st (pc + 1) lv (.int (nI (a % b)) :: stk)) : ZZ l D F Q nL cells st pc lv (.int (nI b) :: .int (nI a) :: stk) := by
  rw [← pk_rem ha h0 hb] at k
  exact fun H locs ls hP hD hS hl => lv_irem E.1 E.2.1 hdg (nI_ne0 h0 hb) (k H locs ls hP hD hS hl)
theorem nI_xor {a b : Nat} (ha : a < 2147483648) (hb : b < 2147483648) : nI a ^^^ nI b = nI (a ^^^ b) := by
  apply Int32.toBitVec_inj.mp
  apply BitVec.eq_of_toNat_eq
  rw [pk_tn (n := a ^^^ b) (Nat.lt_of_lt_of_le (Nat.xor_lt_two_pow (n := 31) ha hb) (by decide))]
  rw [Int32.toBitVec_xor, BitVec.toNat_xor, pk_tn (by omega), pk_tn (by omega)]
theorem nI_and {a b : Nat} (ha : a < 2147483648) (hb : b < 2147483648) : nI a &&& nI b = nI (a &&& b) := by
  apply Int32.toBitVec_inj.mp
  apply BitVec.eq_of_toNat_eq
  rw [pk_tn (n := a &&& b) (Nat.lt_of_le_of_lt Nat.and_le_left (by omega))]
  rw [Int32.toBitVec_and, BitVec.toNat_and, pk_tn (by omega), pk_tn (by omega)]
theorem z_ixor (E : EE D tys F cc nL own lvl) {a b : Nat} (ha : a < 2147483648) (hb : b < 2147483648) (hdg : decode cc pc = .ok (.ixor, 1)) (k : ZZ l D F Q nL cells st (pc + 1) lv (.int (nI (a ^^^ b)) :: stk)) : ZZ l D F Q nL cells st pc lv (.int (nI b) :: .int (nI a) :: stk) := by
  rw [← nI_xor ha hb] at k
  exact fun H locs ls hP hD hS hl => lv_ixor E.1 E.2.1 hdg (k H locs ls hP hD hS hl)
theorem z_iand (E : EE D tys F cc nL own lvl) {a b : Nat} (ha : a < 2147483648) (hb : b < 2147483648) (hdg : decode cc pc = .ok (.iand, 1)) (k : ZZ l D F Q nL cells st (pc + 1) lv (.int (nI (a &&& b)) :: stk)) : ZZ l D F Q nL cells st pc lv (.int (nI b) :: .int (nI a) :: stk) := by
  rw [← nI_and ha hb] at k
  exact fun H locs ls hP hD hS hl => lv_iand E.1 E.2.1 hdg (k H locs ls hP hD hS hl)
theorem z_iandR (E : EE D tys F cc nL own lvl) {a b : Int32} (hdg : decode cc pc = .ok (.iand, 1)) (k : ZZ l D F Q nL cells st (pc + 1) lv (.int (a &&& b) :: stk)) : ZZ l D F Q nL cells st pc lv (.int b :: .int a :: stk) :=
  fun H locs ls hP hD hS hl => lv_iand E.1 E.2.1 hdg (k H locs ls hP hD hS hl)
theorem z_ishr (E : EE D tys F cc nL own lvl) {a : Nat} {b : Int32} (c : Nat) (h : nI a >>> (b &&& 31) = nI c) (hdg : decode cc pc = .ok (.ishr, 1)) (k : ZZ l D F Q nL cells st (pc + 1) lv (.int (nI c) :: stk)) : ZZ l D F Q nL cells st pc lv (.int b :: .int (nI a) :: stk) := by
  rw [← h] at k
  exact fun H locs ls hP hD hS hl => lv_ishr E.1 E.2.1 hdg (k H locs ls hP hD hS hl)
theorem z_icmp_eq (E : EE D tys F cc nL own lvl) {a b : Nat} (ha : a < 2147483648) (hb : b < 2147483648) {off : Int} (tgt : Nat) (hdg : decode cc pc = .ok (.if_icmp .eq off, 3)) (ht : (pc : Int) + off = (tgt : Int))
    (kt : a = b → ZZ l D F Q nL cells st tgt lv stk) (kf : a ≠ b → ZZ l D F Q nL cells st (pc + 3) lv stk) : ZZ l D F Q nL cells st pc lv (.int (nI b) :: .int (nI a) :: stk) :=
  fun H locs ls hP hD hS hl => lv_icmp_eq E.1 E.2.1 hdg ht (fun q => kt ((nI_eq ha hb).mp q) H locs ls hP hD hS hl) (fun q => kf (fun e => q (by rw [e])) H locs ls hP hD hS hl)
theorem z_icmp_ne (E : EE D tys F cc nL own lvl) {a b : Nat} (ha : a < 2147483648) (hb : b < 2147483648) {off : Int} (tgt : Nat) (hdg : decode cc pc = .ok (.if_icmp .ne off, 3)) (ht : (pc : Int) + off = (tgt : Int))
    (kt : a ≠ b → ZZ l D F Q nL cells st tgt lv stk) (kf : a = b → ZZ l D F Q nL cells st (pc + 3) lv stk) : ZZ l D F Q nL cells st pc lv (.int (nI b) :: .int (nI a) :: stk) :=
  fun H locs ls hP hD hS hl => lv_icmp_ne E.1 E.2.1 hdg ht (fun q => kt (fun e => q (by rw [e])) H locs ls hP hD hS hl) (fun q => kf ((nI_eq ha hb).mp q) H locs ls hP hD hS hl)
theorem z_icmp_lt (E : EE D tys F cc nL own lvl) {a b : Nat} (ha : a < 2147483648) (hb : b < 2147483648) {off : Int} (tgt : Nat) (hdg : decode cc pc = .ok (.if_icmp .lt off, 3)) (ht : (pc : Int) + off = (tgt : Int))
    (kt : a < b → ZZ l D F Q nL cells st tgt lv stk) (kf : b ≤ a → ZZ l D F Q nL cells st (pc + 3) lv stk) : ZZ l D F Q nL cells st pc lv (.int (nI b) :: .int (nI a) :: stk) :=
  fun H locs ls hP hD hS hl => lv_icmp_lt E.1 E.2.1 hdg ht (fun q => kt ((nI_ltI ha hb).mp q) H locs ls hP hD hS hl) (fun q => kf (Nat.le_of_not_lt (fun e => q ((nI_ltI ha hb).mpr e))) H locs ls hP hD hS hl)
theorem z_icmp_ge (E : EE D tys F cc nL own lvl) {a b : Nat} (ha : a < 2147483648) (hb : b < 2147483648) {off : Int} (tgt : Nat) (hdg : decode cc pc = .ok (.if_icmp .ge off, 3)) (ht : (pc : Int) + off = (tgt : Int))
    (kt : b ≤ a → ZZ l D F Q nL cells st tgt lv stk) (kf : a < b → ZZ l D F Q nL cells st (pc + 3) lv stk) : ZZ l D F Q nL cells st pc lv (.int (nI b) :: .int (nI a) :: stk) :=
  fun H locs ls hP hD hS hl => lv_icmp_ge E.1 E.2.1 hdg ht (fun q => kt ((nI_leI hb ha).mp q) H locs ls hP hD hS hl) (fun q => kf (Nat.lt_of_not_le (fun e => q ((nI_leI hb ha).mpr e))) H locs ls hP hD hS hl)
theorem z_icmp_gt (E : EE D tys F cc nL own lvl) {a b : Nat} (ha : a < 2147483648) (hb : b < 2147483648) {off : Int} (tgt : Nat) (hdg : decode cc pc = .ok (.if_icmp .gt off, 3)) (ht : (pc : Int) + off = (tgt : Int))
    (kt : b < a → ZZ l D F Q nL cells st tgt lv stk) (kf : a ≤ b → ZZ l D F Q nL cells st (pc + 3) lv stk) : ZZ l D F Q nL cells st pc lv (.int (nI b) :: .int (nI a) :: stk) :=
  fun H locs ls hP hD hS hl => lv_icmp_gt E.1 E.2.1 hdg ht (fun q => kt ((nI_ltI hb ha).mp q) H locs ls hP hD hS hl) (fun q => kf (Nat.le_of_not_lt (fun e => q ((nI_ltI hb ha).mpr e))) H locs ls hP hD hS hl)
theorem z_icmp_le (E : EE D tys F cc nL own lvl) {a b : Nat} (ha : a < 2147483648) (hb : b < 2147483648) {off : Int} (tgt : Nat) (hdg : decode cc pc = .ok (.if_icmp .le off, 3)) (ht : (pc : Int) + off = (tgt : Int))
    (kt : a ≤ b → ZZ l D F Q nL cells st tgt lv stk) (kf : b < a → ZZ l D F Q nL cells st (pc + 3) lv stk) : ZZ l D F Q nL cells st pc lv (.int (nI b) :: .int (nI a) :: stk) :=
  fun H locs ls hP hD hS hl => lv_icmp_le E.1 E.2.1 hdg ht (fun q => kt ((nI_leI ha hb).mp q) H locs ls hP hD hS hl) (fun q => kf (Nat.lt_of_not_le (fun e => q ((nI_leI ha hb).mpr e))) H locs ls hP hD hS hl)
theorem zr_icmp_eq (E : EE D tys F cc nL own lvl) {x y : Int32} {off : Int} (tgt : Nat) (hdg : decode cc pc = .ok (.if_icmp .eq off, 3)) (ht : (pc : Int) + off = (tgt : Int))
    (kt : x = y → ZZ l D F Q nL cells st tgt lv stk) (kf : ¬ x = y → ZZ l D F Q nL cells st (pc + 3) lv stk) : ZZ l D F Q nL cells st pc lv (.int y :: .int x :: stk) :=
  fun H locs ls hP hD hS hl => lv_icmp_eq E.1 E.2.1 hdg ht (fun q => kt q H locs ls hP hD hS hl) (fun q => kf q H locs ls hP hD hS hl)
theorem zr_icmp_ne (E : EE D tys F cc nL own lvl) {x y : Int32} {off : Int} (tgt : Nat) (hdg : decode cc pc = .ok (.if_icmp .ne off, 3)) (ht : (pc : Int) + off = (tgt : Int))
    (kt : ¬ x = y → ZZ l D F Q nL cells st tgt lv stk) (kf : x = y → ZZ l D F Q nL cells st (pc + 3) lv stk) : ZZ l D F Q nL cells st pc lv (.int y :: .int x :: stk) :=
  fun H locs ls hP hD hS hl => lv_icmp_ne E.1 E.2.1 hdg ht (fun q => kt q H locs ls hP hD hS hl) (fun q => kf q H locs ls hP hD hS hl)
theorem zr_icmp_lt (E : EE D tys F cc nL own lvl) {x y : Int32} {off : Int} (tgt : Nat) (hdg : decode cc pc = .ok (.if_icmp .lt off, 3)) (ht : (pc : Int) + off = (tgt : Int))
    (kt : x < y → ZZ l D F Q nL cells st tgt lv stk) (kf : ¬ x < y → ZZ l D F Q nL cells st (pc + 3) lv stk) : ZZ l D F Q nL cells st pc lv (.int y :: .int x :: stk) :=
  fun H locs ls hP hD hS hl => lv_icmp_lt E.1 E.2.1 hdg ht (fun q => kt q H locs ls hP hD hS hl) (fun q => kf q H locs ls hP hD hS hl)
theorem zr_icmp_ge (E : EE D tys F cc nL own lvl) {x y : Int32} {off : Int} (tgt : Nat) (hdg : decode cc pc = .ok (.if_icmp .ge off, 3)) (ht : (pc : Int) + off = (tgt : Int))
    (kt : y ≤ x → ZZ l D F Q nL cells st tgt lv stk) (kf : ¬ y ≤ x → ZZ l D F Q nL cells st (pc + 3) lv stk) : ZZ l D F Q nL cells st pc lv (.int y :: .int x :: stk) :=
  fun H locs ls hP hD hS hl => lv_icmp_ge E.1 E.2.1 hdg ht (fun q => kt q H locs ls hP hD hS hl) (fun q => kf q H locs ls hP hD hS hl)
theorem zr_icmp_gt (E : EE D tys F cc nL own lvl) {x y : Int32} {off : Int} (tgt : Nat) (hdg : decode cc pc = .ok (.if_icmp .gt off, 3)) (ht : (pc : Int) + off = (tgt : Int))
    (kt : y < x → ZZ l D F Q nL cells st tgt lv stk) (kf : ¬ y < x → ZZ l D F Q nL cells st (pc + 3) lv stk) : ZZ l D F Q nL cells st pc lv (.int y :: .int x :: stk) :=
  fun H locs ls hP hD hS hl => lv_icmp_gt E.1 E.2.1 hdg ht (fun q => kt q H locs ls hP hD hS hl) (fun q => kf q H locs ls hP hD hS hl)
theorem zr_icmp_le (E : EE D tys F cc nL own lvl) {x y : Int32} {off : Int} (tgt : Nat) (hdg : decode cc pc = .ok (.if_icmp .le off, 3)) (ht : (pc : Int) + off = (tgt : Int))
    (kt : x ≤ y → ZZ l D F Q nL cells st tgt lv stk) (kf : ¬ x ≤ y → ZZ l D F Q nL cells st (pc + 3) lv stk) : ZZ l D F Q nL cells st pc lv (.int y :: .int x :: stk) :=
  fun H locs ls hP hD hS hl => lv_icmp_le E.1 E.2.1 hdg ht (fun q => kt q H locs ls hP hD hS hl) (fun q => kf q H locs ls hP hD hS hl)
theorem zr_if_eq (E : EE D tys F cc nL own lvl) {x : Int32} {off : Int} (tgt : Nat) (hdg : decode cc pc = .ok (.ifCond .eq off, 3)) (ht : (pc : Int) + off = (tgt : Int))
    (kt : x = 0 → ZZ l D F Q nL cells st tgt lv stk) (kf : ¬ x = 0 → ZZ l D F Q nL cells st (pc + 3) lv stk) : ZZ l D F Q nL cells st pc lv (.int x :: stk) :=
  fun H locs ls hP hD hS hl => lv_if_eq E.1 E.2.1 hdg ht (fun q => kt q H locs ls hP hD hS hl) (fun q => kf q H locs ls hP hD hS hl)
theorem zr_if_ne (E : EE D tys F cc nL own lvl) {x : Int32} {off : Int} (tgt : Nat) (hdg : decode cc pc = .ok (.ifCond .ne off, 3)) (ht : (pc : Int) + off = (tgt : Int))
    (kt : ¬ x = 0 → ZZ l D F Q nL cells st tgt lv stk) (kf : x = 0 → ZZ l D F Q nL cells st (pc + 3) lv stk) : ZZ l D F Q nL cells st pc lv (.int x :: stk) :=
  fun H locs ls hP hD hS hl => lv_if_ne E.1 E.2.1 hdg ht (fun q => kt q H locs ls hP hD hS hl) (fun q => kf q H locs ls hP hD hS hl)
theorem zr_if_lt (E : EE D tys F cc nL own lvl) {x : Int32} {off : Int} (tgt : Nat) (hdg : decode cc pc = .ok (.ifCond .lt off, 3)) (ht : (pc : Int) + off = (tgt : Int))
    (kt : x < 0 → ZZ l D F Q nL cells st tgt lv stk) (kf : ¬ x < 0 → ZZ l D F Q nL cells st (pc + 3) lv stk) : ZZ l D F Q nL cells st pc lv (.int x :: stk) :=
  fun H locs ls hP hD hS hl => lv_if_lt E.1 E.2.1 hdg ht (fun q => kt q H locs ls hP hD hS hl) (fun q => kf q H locs ls hP hD hS hl)
theorem zr_if_ge (E : EE D tys F cc nL own lvl) {x : Int32} {off : Int} (tgt : Nat) (hdg : decode cc pc = .ok (.ifCond .ge off, 3)) (ht : (pc : Int) + off = (tgt : Int))
    (kt : 0 ≤ x → ZZ l D F Q nL cells st tgt lv stk) (kf : ¬ 0 ≤ x → ZZ l D F Q nL cells st (pc + 3) lv stk) : ZZ l D F Q nL cells st pc lv (.int x :: stk) :=
  fun H locs ls hP hD hS hl => lv_if_ge E.1 E.2.1 hdg ht (fun q => kt q H locs ls hP hD hS hl) (fun q => kf q H locs ls hP hD hS hl)
theorem zr_if_gt (E : EE D tys F cc nL own lvl) {x : Int32} {off : Int} (tgt : Nat) (hdg : decode cc pc = .ok (.ifCond .gt off, 3)) (ht : (pc : Int) + off = (tgt : Int))
    (kt : 0 < x → ZZ l D F Q nL cells st tgt lv stk) (kf : ¬ 0 < x → ZZ l D F Q nL cells st (pc + 3) lv stk) : ZZ l D F Q nL cells st pc lv (.int x :: stk) :=
  fun H locs ls hP hD hS hl => lv_if_gt E.1 E.2.1 hdg ht (fun q => kt q H locs ls hP hD hS hl) (fun q => kf q H locs ls hP hD hS hl)
theorem zr_if_le (E : EE D tys F cc nL own lvl) {x : Int32} {off : Int} (tgt : Nat) (hdg : decode cc pc = .ok (.ifCond .le off, 3)) (ht : (pc : Int) + off = (tgt : Int))
    (kt : x ≤ 0 → ZZ l D F Q nL cells st tgt lv stk) (kf : ¬ x ≤ 0 → ZZ l D F Q nL cells st (pc + 3) lv stk) : ZZ l D F Q nL cells st pc lv (.int x :: stk) :=
  fun H locs ls hP hD hS hl => lv_if_le E.1 E.2.1 hdg ht (fun q => kt q H locs ls hP hD hS hl) (fun q => kf q H locs ls hP hD hS hl)
theorem z_if_eq (E : EE D tys F cc nL own lvl) {a : Nat} (ha : a < 2147483648) {off : Int} (tgt : Nat) (hdg : decode cc pc = .ok (.ifCond .eq off, 3)) (ht : (pc : Int) + off = (tgt : Int))
    (kt : a = 0 → ZZ l D F Q nL cells st tgt lv stk) (kf : a ≠ 0 → ZZ l D F Q nL cells st (pc + 3) lv stk) : ZZ l D F Q nL cells st pc lv (.int (nI a) :: stk) :=
  fun H locs ls hP hD hS hl => lv_if_eq E.1 E.2.1 hdg ht (fun q => kt ((nI_eq (b := 0) ha (by decide)).mp q) H locs ls hP hD hS hl) (fun q => kf (fun e => q (by rw [e]; rfl)) H locs ls hP hD hS hl)
theorem z_if_ne (E : EE D tys F cc nL own lvl) {a : Nat} (ha : a < 2147483648) {off : Int} (tgt : Nat) (hdg : decode cc pc = .ok (.ifCond .ne off, 3)) (ht : (pc : Int) + off = (tgt : Int))
    (kt : a ≠ 0 → ZZ l D F Q nL cells st tgt lv stk) (kf : a = 0 → ZZ l D F Q nL cells st (pc + 3) lv stk) : ZZ l D F Q nL cells st pc lv (.int (nI a) :: stk) :=
  fun H locs ls hP hD hS hl => lv_if_ne E.1 E.2.1 hdg ht (fun q => kt (fun e => q (by rw [e]; rfl)) H locs ls hP hD hS hl) (fun q => kf ((nI_eq (b := 0) ha (by decide)).mp q) H locs ls hP hD hS hl)
theorem z_if_le (E : EE D tys F cc nL own lvl) {a : Nat} (ha : a < 2147483648) {off : Int} (tgt : Nat) (hdg : decode cc pc = .ok (.ifCond .le off, 3)) (ht : (pc : Int) + off = (tgt : Int))
    (kt : a = 0 → ZZ l D F Q nL cells st tgt lv stk) (kf : 0 < a → ZZ l D F Q nL cells st (pc + 3) lv stk) : ZZ l D F Q nL cells st pc lv (.int (nI a) :: stk) :=
  fun H locs ls hP hD hS hl => lv_if_le E.1 E.2.1 hdg ht (fun q => kt (Nat.le_zero.mp ((nI_leI (b := 0) ha (by decide)).mp q)) H locs ls hP hD hS hl) (fun q => kf (Nat.pos_of_ne_zero (fun e => q (by rw [e]; decide))) H locs ls hP hD hS hl)
theorem z_if_gt (E : EE D tys F cc nL own lvl) {a : Nat} (ha : a < 2147483648) {off : Int} (tgt : Nat) (hdg : decode cc pc = .ok (.ifCond .gt off, 3)) (ht : (pc : Int) + off = (tgt : Int))
    (kt : 0 < a → ZZ l D F Q nL cells st tgt lv stk) (kf : a = 0 → ZZ l D F Q nL cells st (pc + 3) lv stk) : ZZ l D F Q nL cells st pc lv (.int (nI a) :: stk) :=
  fun H locs ls hP hD hS hl => lv_if_gt E.1 E.2.1 hdg ht (fun q => kt ((nI_ltI (a := 0) (by decide) ha).mp q) H locs ls hP hD hS hl) (fun q => kf (Nat.le_zero.mp (Nat.le_of_not_lt (fun e => q ((nI_ltI (a := 0) (by decide) ha).mpr e)))) H locs ls hP hD hS hl)
theorem z_if_lt (E : EE D tys F cc nL own lvl) {a : Nat} (ha : a < 2147483648) {off : Int} (tgt : Nat) (hdg : decode cc pc = .ok (.ifCond .lt off, 3)) (ht : (pc : Int) + off = (tgt : Int))
    (kt : False → ZZ l D F Q nL cells st tgt lv stk) (kf : True → ZZ l D F Q nL cells st (pc + 3) lv stk) : ZZ l D F Q nL cells st pc lv (.int (nI a) :: stk) :=
  fun H locs ls hP hD hS hl => lv_if_lt E.1 E.2.1 hdg ht (fun q => kt (nI_pos ha q) H locs ls hP hD hS hl) (fun q => kf (trivial) H locs ls hP hD hS hl)
theorem z_ild0 (E : EE D tys F cc nL own lvl) {v : Int32} {t : List (Option Value)} (hdg : decode cc pc = .ok (.iload_n 0, 1)) (k : ZZ l D F Q nL cells st (pc + 1) (some (.int v) :: t) (.int v :: stk)) : ZZ l D F Q nL cells st pc (some (.int v) :: t) stk :=
  z_ildnG (i := (0 : Fin 4)) E rfl hdg k
theorem z_ist0 (E : EE D tys F cc nL own lvl) {v : Int32} {w : Option Value} {t : List (Option Value)} (hdg : decode cc pc = .ok (.istore_n 0, 1)) (k : ZZ l D F Q nL cells st (pc + 1) (some (.int v) :: t) stk) : ZZ l D F Q nL cells st pc (w :: t) (.int v :: stk) :=
  z_istnG (i := (0 : Fin 4)) E (lv := w :: t) (by show 0 < _; simp only [List.length_cons]; omega) hdg k
theorem z_inc0 (E : EE D tys F cc nL own lvl) {v : Nat} {t : List (Option Value)} (hdg : decode cc pc = .ok (.iinc 0 1, 3)) (k : ZZ l D F Q nL cells st (pc + 3) (some (.int (nI (v + 1))) :: t) stk) : ZZ l D F Q nL cells st pc (some (.int (nI v)) :: t) stk :=
  z_incG (i := 0) (lv := some (.int (nI v)) :: t) E rfl (inc1 v) hdg k
theorem z_dec0 (E : EE D tys F cc nL own lvl) {v : Nat} (hv : 0 < v) {t : List (Option Value)} (hdg : decode cc pc = .ok (.iinc 0 (-1), 3)) (k : ZZ l D F Q nL cells st (pc + 3) (some (.int (nI (v - 1))) :: t) stk) : ZZ l D F Q nL cells st pc (some (.int (nI v)) :: t) stk :=
  z_incG (i := 0) (lv := some (.int (nI v)) :: t) E rfl (dec1 hv) hdg k
theorem z_ild1 (E : EE D tys F cc nL own lvl) {v : Int32} {a0 : Option Value} {t : List (Option Value)} (hdg : decode cc pc = .ok (.iload_n 1, 1)) (k : ZZ l D F Q nL cells st (pc + 1) (a0 :: some (.int v) :: t) (.int v :: stk)) : ZZ l D F Q nL cells st pc (a0 :: some (.int v) :: t) stk :=
  z_ildnG (i := (1 : Fin 4)) E rfl hdg k
theorem z_ist1 (E : EE D tys F cc nL own lvl) {v : Int32} {a0 : Option Value} {w : Option Value} {t : List (Option Value)} (hdg : decode cc pc = .ok (.istore_n 1, 1)) (k : ZZ l D F Q nL cells st (pc + 1) (a0 :: some (.int v) :: t) stk) : ZZ l D F Q nL cells st pc (a0 :: w :: t) (.int v :: stk) :=
  z_istnG (i := (1 : Fin 4)) E (lv := a0 :: w :: t) (by show 1 < _; simp only [List.length_cons]; omega) hdg k
theorem z_inc1 (E : EE D tys F cc nL own lvl) {v : Nat} {a0 : Option Value} {t : List (Option Value)} (hdg : decode cc pc = .ok (.iinc 1 1, 3)) (k : ZZ l D F Q nL cells st (pc + 3) (a0 :: some (.int (nI (v + 1))) :: t) stk) : ZZ l D F Q nL cells st pc (a0 :: some (.int (nI v)) :: t) stk :=
  z_incG (i := 1) (lv := a0 :: some (.int (nI v)) :: t) E rfl (inc1 v) hdg k
theorem z_dec1 (E : EE D tys F cc nL own lvl) {v : Nat} (hv : 0 < v) {a0 : Option Value} {t : List (Option Value)} (hdg : decode cc pc = .ok (.iinc 1 (-1), 3)) (k : ZZ l D F Q nL cells st (pc + 3) (a0 :: some (.int (nI (v - 1))) :: t) stk) : ZZ l D F Q nL cells st pc (a0 :: some (.int (nI v)) :: t) stk :=
  z_incG (i := 1) (lv := a0 :: some (.int (nI v)) :: t) E rfl (dec1 hv) hdg k
theorem z_ild2 (E : EE D tys F cc nL own lvl) {v : Int32} {a0 a1 : Option Value} {t : List (Option Value)} (hdg : decode cc pc = .ok (.iload_n 2, 1)) (k : ZZ l D F Q nL cells st (pc + 1) (a0 :: a1 :: some (.int v) :: t) (.int v :: stk)) : ZZ l D F Q nL cells st pc (a0 :: a1 :: some (.int v) :: t) stk :=
  z_ildnG (i := (2 : Fin 4)) E rfl hdg k
theorem z_ist2 (E : EE D tys F cc nL own lvl) {v : Int32} {a0 a1 : Option Value} {w : Option Value} {t : List (Option Value)} (hdg : decode cc pc = .ok (.istore_n 2, 1)) (k : ZZ l D F Q nL cells st (pc + 1) (a0 :: a1 :: some (.int v) :: t) stk) : ZZ l D F Q nL cells st pc (a0 :: a1 :: w :: t) (.int v :: stk) :=
  z_istnG (i := (2 : Fin 4)) E (lv := a0 :: a1 :: w :: t) (by show 2 < _; simp only [List.length_cons]; omega) hdg k
theorem z_inc2 (E : EE D tys F cc nL own lvl) {v : Nat} {a0 a1 : Option Value} {t : List (Option Value)} (hdg : decode cc pc = .ok (.iinc 2 1, 3)) (k : ZZ l D F Q nL cells st (pc + 3) (a0 :: a1 :: some (.int (nI (v + 1))) :: t) stk) : ZZ l D F Q nL cells st pc (a0 :: a1 :: some (.int (nI v)) :: t) stk :=
  z_incG (i := 2) (lv := a0 :: a1 :: some (.int (nI v)) :: t) E rfl (inc1 v) hdg k
theorem z_dec2 (E : EE D tys F cc nL own lvl) {v : Nat} (hv : 0 < v) {a0 a1 : Option Value} {t : List (Option Value)} (hdg : decode cc pc = .ok (.iinc 2 (-1), 3)) (k : ZZ l D F Q nL cells st (pc + 3) (a0 :: a1 :: some (.int (nI (v - 1))) :: t) stk) : ZZ l D F Q nL cells st pc (a0 :: a1 :: some (.int (nI v)) :: t) stk :=
  z_incG (i := 2) (lv := a0 :: a1 :: some (.int (nI v)) :: t) E rfl (dec1 hv) hdg k
theorem z_ild3 (E : EE D tys F cc nL own lvl) {v : Int32} {a0 a1 a2 : Option Value} {t : List (Option Value)} (hdg : decode cc pc = .ok (.iload_n 3, 1)) (k : ZZ l D F Q nL cells st (pc + 1) (a0 :: a1 :: a2 :: some (.int v) :: t) (.int v :: stk)) : ZZ l D F Q nL cells st pc (a0 :: a1 :: a2 :: some (.int v) :: t) stk :=
  z_ildnG (i := (3 : Fin 4)) E rfl hdg k
theorem z_ist3 (E : EE D tys F cc nL own lvl) {v : Int32} {a0 a1 a2 : Option Value} {w : Option Value} {t : List (Option Value)} (hdg : decode cc pc = .ok (.istore_n 3, 1)) (k : ZZ l D F Q nL cells st (pc + 1) (a0 :: a1 :: a2 :: some (.int v) :: t) stk) : ZZ l D F Q nL cells st pc (a0 :: a1 :: a2 :: w :: t) (.int v :: stk) :=
  z_istnG (i := (3 : Fin 4)) E (lv := a0 :: a1 :: a2 :: w :: t) (by show 3 < _; simp only [List.length_cons]; omega) hdg k
theorem z_inc3 (E : EE D tys F cc nL own lvl) {v : Nat} {a0 a1 a2 : Option Value} {t : List (Option Value)} (hdg : decode cc pc = .ok (.iinc 3 1, 3)) (k : ZZ l D F Q nL cells st (pc + 3) (a0 :: a1 :: a2 :: some (.int (nI (v + 1))) :: t) stk) : ZZ l D F Q nL cells st pc (a0 :: a1 :: a2 :: some (.int (nI v)) :: t) stk :=
  z_incG (i := 3) (lv := a0 :: a1 :: a2 :: some (.int (nI v)) :: t) E rfl (inc1 v) hdg k
theorem z_dec3 (E : EE D tys F cc nL own lvl) {v : Nat} (hv : 0 < v) {a0 a1 a2 : Option Value} {t : List (Option Value)} (hdg : decode cc pc = .ok (.iinc 3 (-1), 3)) (k : ZZ l D F Q nL cells st (pc + 3) (a0 :: a1 :: a2 :: some (.int (nI (v - 1))) :: t) stk) : ZZ l D F Q nL cells st pc (a0 :: a1 :: a2 :: some (.int (nI v)) :: t) stk :=
  z_incG (i := 3) (lv := a0 :: a1 :: a2 :: some (.int (nI v)) :: t) E rfl (dec1 hv) hdg k
theorem z_ild4 (E : EE D tys F cc nL own lvl) {v : Int32} {a0 a1 a2 a3 : Option Value} {t : List (Option Value)} (hdg : decode cc pc = .ok (.iload 4, 2)) (k : ZZ l D F Q nL cells st (pc + 2) (a0 :: a1 :: a2 :: a3 :: some (.int v) :: t) (.int v :: stk)) : ZZ l D F Q nL cells st pc (a0 :: a1 :: a2 :: a3 :: some (.int v) :: t) stk :=
  z_ildG (i := 4) E rfl hdg k
theorem z_ist4 (E : EE D tys F cc nL own lvl) {v : Int32} {a0 a1 a2 a3 : Option Value} {w : Option Value} {t : List (Option Value)} (hdg : decode cc pc = .ok (.istore 4, 2)) (k : ZZ l D F Q nL cells st (pc + 2) (a0 :: a1 :: a2 :: a3 :: some (.int v) :: t) stk) : ZZ l D F Q nL cells st pc (a0 :: a1 :: a2 :: a3 :: w :: t) (.int v :: stk) :=
  z_istG (i := 4) E (lv := a0 :: a1 :: a2 :: a3 :: w :: t) (by show 4 < _; simp only [List.length_cons]; omega) hdg k
theorem z_inc4 (E : EE D tys F cc nL own lvl) {v : Nat} {a0 a1 a2 a3 : Option Value} {t : List (Option Value)} (hdg : decode cc pc = .ok (.iinc 4 1, 3)) (k : ZZ l D F Q nL cells st (pc + 3) (a0 :: a1 :: a2 :: a3 :: some (.int (nI (v + 1))) :: t) stk) : ZZ l D F Q nL cells st pc (a0 :: a1 :: a2 :: a3 :: some (.int (nI v)) :: t) stk :=
  z_incG (i := 4) (lv := a0 :: a1 :: a2 :: a3 :: some (.int (nI v)) :: t) E rfl (inc1 v) hdg k
theorem z_dec4 (E : EE D tys F cc nL own lvl) {v : Nat} (hv : 0 < v) {a0 a1 a2 a3 : Option Value} {t : List (Option Value)} (hdg : decode cc pc = .ok (.iinc 4 (-1), 3)) (k : ZZ l D F Q nL cells st (pc + 3) (a0 :: a1 :: a2 :: a3 :: some (.int (nI (v - 1))) :: t) stk) : ZZ l D F Q nL cells st pc (a0 :: a1 :: a2 :: a3 :: some (.int (nI v)) :: t) stk :=
  z_incG (i := 4) (lv := a0 :: a1 :: a2 :: a3 :: some (.int (nI v)) :: t) E rfl (dec1 hv) hdg k
theorem z_ild5 (E : EE D tys F cc nL own lvl) {v : Int32} {a0 a1 a2 a3 a4 : Option Value} {t : List (Option Value)} (hdg : decode cc pc = .ok (.iload 5, 2)) (k : ZZ l D F Q nL cells st (pc + 2) (a0 :: a1 :: a2 :: a3 :: a4 :: some (.int v) :: t) (.int v :: stk)) : ZZ l D F Q nL cells st pc (a0 :: a1 :: a2 :: a3 :: a4 :: some (.int v) :: t) stk :=
  z_ildG (i := 5) E rfl hdg k
theorem z_ist5 (E : EE D tys F cc nL own lvl) {v : Int32} {a0 a1 a2 a3 a4 : Option Value} {w : Option Value} {t : List (Option Value)} (hdg : decode cc pc = .ok (.istore 5, 2)) (k : ZZ l D F Q nL cells st (pc + 2) (a0 :: a1 :: a2 :: a3 :: a4 :: some (.int v) :: t) stk) : ZZ l D F Q nL cells st pc (a0 :: a1 :: a2 :: a3 :: a4 :: w :: t) (.int v :: stk) :=
  z_istG (i := 5) E (lv := a0 :: a1 :: a2 :: a3 :: a4 :: w :: t) (by show 5 < _; simp only [List.length_cons]; omega) hdg k
theorem z_inc5 (E : EE D tys F cc nL own lvl) {v : Nat} {a0 a1 a2 a3 a4 : Option Value} {t : List (Option Value)} (hdg : decode cc pc = .ok (.iinc 5 1, 3)) (k : ZZ l D F Q nL cells st (pc + 3) (a0 :: a1 :: a2 :: a3 :: a4 :: some (.int (nI (v + 1))) :: t) stk) : ZZ l D F Q nL cells st pc (a0 :: a1 :: a2 :: a3 :: a4 :: some (.int (nI v)) :: t) stk :=
  z_incG (i := 5) (lv := a0 :: a1 :: a2 :: a3 :: a4 :: some (.int (nI v)) :: t) E rfl (inc1 v) hdg k
theorem z_dec5 (E : EE D tys F cc nL own lvl) {v : Nat} (hv : 0 < v) {a0 a1 a2 a3 a4 : Option Value} {t : List (Option Value)} (hdg : decode cc pc = .ok (.iinc 5 (-1), 3)) (k : ZZ l D F Q nL cells st (pc + 3) (a0 :: a1 :: a2 :: a3 :: a4 :: some (.int (nI (v - 1))) :: t) stk) : ZZ l D F Q nL cells st pc (a0 :: a1 :: a2 :: a3 :: a4 :: some (.int (nI v)) :: t) stk :=
  z_incG (i := 5) (lv := a0 :: a1 :: a2 :: a3 :: a4 :: some (.int (nI v)) :: t) E rfl (dec1 hv) hdg k
theorem z_ild6 (E : EE D tys F cc nL own lvl) {v : Int32} {a0 a1 a2 a3 a4 a5 : Option Value} {t : List (Option Value)} (hdg : decode cc pc = .ok (.iload 6, 2)) (k : ZZ l D F Q nL cells st (pc + 2) (a0 :: a1 :: a2 :: a3 :: a4 :: a5 :: some (.int v) :: t) (.int v :: stk)) : ZZ l D F Q nL cells st pc (a0 :: a1 :: a2 :: a3 :: a4 :: a5 :: some (.int v) :: t) stk :=
  z_ildG (i := 6) E rfl hdg k
theorem z_ist6 (E : EE D tys F cc nL own lvl) {v : Int32} {a0 a1 a2 a3 a4 a5 : Option Value} {w : Option Value} {t : List (Option Value)} (hdg : decode cc pc = .ok (.istore 6, 2)) (k : ZZ l D F Q nL cells st (pc + 2) (a0 :: a1 :: a2 :: a3 :: a4 :: a5 :: some (.int v) :: t) stk) : ZZ l D F Q nL cells st pc (a0 :: a1 :: a2 :: a3 :: a4 :: a5 :: w :: t) (.int v :: stk) :=
  z_istG (i := 6) E (lv := a0 :: a1 :: a2 :: a3 :: a4 :: a5 :: w :: t) (by show 6 < _; simp only [List.length_cons]; omega) hdg k
theorem z_inc6 (E : EE D tys F cc nL own lvl) {v : Nat} {a0 a1 a2 a3 a4 a5 : Option Value} {t : List (Option Value)} (hdg : decode cc pc = .ok (.iinc 6 1, 3)) (k : ZZ l D F Q nL cells st (pc + 3) (a0 :: a1 :: a2 :: a3 :: a4 :: a5 :: some (.int (nI (v + 1))) :: t) stk) : ZZ l D F Q nL cells st pc (a0 :: a1 :: a2 :: a3 :: a4 :: a5 :: some (.int (nI v)) :: t) stk :=
  z_incG (i := 6) (lv := a0 :: a1 :: a2 :: a3 :: a4 :: a5 :: some (.int (nI v)) :: t) E rfl (inc1 v) hdg k
theorem z_dec6 (E : EE D tys F cc nL own lvl) {v : Nat} (hv : 0 < v) {a0 a1 a2 a3 a4 a5 : Option Value} {t : List (Option Value)} (hdg : decode cc pc = .ok (.iinc 6 (-1), 3)) (k : ZZ l D F Q nL cells st (pc + 3) (a0 :: a1 :: a2 :: a3 :: a4 :: a5 :: some (.int (nI (v - 1))) :: t) stk) : ZZ l D F Q nL cells st pc (a0 :: a1 :: a2 :: a3 :: a4 :: a5 :: some (.int (nI v)) :: t) stk :=
  z_incG (i := 6) (lv := a0 :: a1 :: a2 :: a3 :: a4 :: a5 :: some (.int (nI v)) :: t) E rfl (dec1 hv) hdg k
theorem z_ild7 (E : EE D tys F cc nL own lvl) {v : Int32} {a0 a1 a2 a3 a4 a5 a6 : Option Value} {t : List (Option Value)} (hdg : decode cc pc = .ok (.iload 7, 2)) (k : ZZ l D F Q nL cells st (pc + 2) (a0 :: a1 :: a2 :: a3 :: a4 :: a5 :: a6 :: some (.int v) :: t) (.int v :: stk)) : ZZ l D F Q nL cells st pc (a0 :: a1 :: a2 :: a3 :: a4 :: a5 :: a6 :: some (.int v) :: t) stk :=
  z_ildG (i := 7) E rfl hdg k
theorem z_ist7 (E : EE D tys F cc nL own lvl) {v : Int32} {a0 a1 a2 a3 a4 a5 a6 : Option Value} {w : Option Value} {t : List (Option Value)} (hdg : decode cc pc = .ok (.istore 7, 2)) (k : ZZ l D F Q nL cells st (pc + 2) (a0 :: a1 :: a2 :: a3 :: a4 :: a5 :: a6 :: some (.int v) :: t) stk) : ZZ l D F Q nL cells st pc (a0 :: a1 :: a2 :: a3 :: a4 :: a5 :: a6 :: w :: t) (.int v :: stk) :=
  z_istG (i := 7) E (lv := a0 :: a1 :: a2 :: a3 :: a4 :: a5 :: a6 :: w :: t) (by show 7 < _; simp only [List.length_cons]; omega) hdg k
theorem z_inc7 (E : EE D tys F cc nL own lvl) {v : Nat} {a0 a1 a2 a3 a4 a5 a6 : Option Value} {t : List (Option Value)} (hdg : decode cc pc = .ok (.iinc 7 1, 3)) (k : ZZ l D F Q nL cells st (pc + 3) (a0 :: a1 :: a2 :: a3 :: a4 :: a5 :: a6 :: some (.int (nI (v + 1))) :: t) stk) : ZZ l D F Q nL cells st pc (a0 :: a1 :: a2 :: a3 :: a4 :: a5 :: a6 :: some (.int (nI v)) :: t) stk :=
  z_incG (i := 7) (lv := a0 :: a1 :: a2 :: a3 :: a4 :: a5 :: a6 :: some (.int (nI v)) :: t) E rfl (inc1 v) hdg k
theorem z_dec7 (E : EE D tys F cc nL own lvl) {v : Nat} (hv : 0 < v) {a0 a1 a2 a3 a4 a5 a6 : Option Value} {t : List (Option Value)} (hdg : decode cc pc = .ok (.iinc 7 (-1), 3)) (k : ZZ l D F Q nL cells st (pc + 3) (a0 :: a1 :: a2 :: a3 :: a4 :: a5 :: a6 :: some (.int (nI (v - 1))) :: t) stk) : ZZ l D F Q nL cells st pc (a0 :: a1 :: a2 :: a3 :: a4 :: a5 :: a6 :: some (.int (nI v)) :: t) stk :=
  z_incG (i := 7) (lv := a0 :: a1 :: a2 :: a3 :: a4 :: a5 :: a6 :: some (.int (nI v)) :: t) E rfl (dec1 hv) hdg k
theorem z_ild8 (E : EE D tys F cc nL own lvl) {v : Int32} {a0 a1 a2 a3 a4 a5 a6 a7 : Option Value} {t : List (Option Value)} (hdg : decode cc pc = .ok (.iload 8, 2)) (k : ZZ l D F Q nL cells st (pc + 2) (a0 :: a1 :: a2 :: a3 :: a4 :: a5 :: a6 :: a7 :: some (.int v) :: t) (.int v :: stk)) : ZZ l D F Q nL cells st pc (a0 :: a1 :: a2 :: a3 :: a4 :: a5 :: a6 :: a7 :: some (.int v) :: t) stk :=
  z_ildG (i := 8) E rfl hdg k
theorem z_ist8 (E : EE D tys F cc nL own lvl) {v : Int32} {a0 a1 a2 a3 a4 a5 a6 a7 : Option Value} {w : Option Value} {t : List (Option Value)} (hdg : decode cc pc = .ok (.istore 8, 2)) (k : ZZ l D F Q nL cells st (pc + 2) (a0 :: a1 :: a2 :: a3 :: a4 :: a5 :: a6 :: a7 :: some (.int v) :: t) stk) : ZZ l D F Q nL cells st pc (a0 :: a1 :: a2 :: a3 :: a4 :: a5 :: a6 :: a7 :: w :: t) (.int v :: stk) :=
  z_istG (i := 8) E (lv := a0 :: a1 :: a2 :: a3 :: a4 :: a5 :: a6 :: a7 :: w :: t) (by show 8 < _; simp only [List.length_cons]; omega) hdg k
theorem z_inc8 (E : EE D tys F cc nL own lvl) {v : Nat} {a0 a1 a2 a3 a4 a5 a6 a7 : Option Value} {t : List (Option Value)} (hdg : decode cc pc = .ok (.iinc 8 1, 3)) (k : ZZ l D F Q nL cells st (pc + 3) (a0 :: a1 :: a2 :: a3 :: a4 :: a5 :: a6 :: a7 :: some (.int (nI (v + 1))) :: t) stk) : ZZ l D F Q nL cells st pc (a0 :: a1 :: a2 :: a3 :: a4 :: a5 :: a6 :: a7 :: some (.int (nI v)) :: t) stk :=
  z_incG (i := 8) (lv := a0 :: a1 :: a2 :: a3 :: a4 :: a5 :: a6 :: a7 :: some (.int (nI v)) :: t) E rfl (inc1 v) hdg k
theorem z_dec8 (E : EE D tys F cc nL own lvl) {v : Nat} (hv : 0 < v) {a0 a1 a2 a3 a4 a5 a6 a7 : Option Value} {t : List (Option Value)} (hdg : decode cc pc = .ok (.iinc 8 (-1), 3)) (k : ZZ l D F Q nL cells st (pc + 3) (a0 :: a1 :: a2 :: a3 :: a4 :: a5 :: a6 :: a7 :: some (.int (nI (v - 1))) :: t) stk) : ZZ l D F Q nL cells st pc (a0 :: a1 :: a2 :: a3 :: a4 :: a5 :: a6 :: a7 :: some (.int (nI v)) :: t) stk :=
  z_incG (i := 8) (lv := a0 :: a1 :: a2 :: a3 :: a4 :: a5 :: a6 :: a7 :: some (.int (nI v)) :: t) E rfl (dec1 hv) hdg k
theorem z_ild9 (E : EE D tys F cc nL own lvl) {v : Int32} {a0 a1 a2 a3 a4 a5 a6 a7 a8 : Option Value} {t : List (Option Value)} (hdg : decode cc pc = .ok (.iload 9, 2)) (k : ZZ l D F Q nL cells st (pc + 2) (a0 :: a1 :: a2 :: a3 :: a4 :: a5 :: a6 :: a7 :: a8 :: some (.int v) :: t) (.int v :: stk)) : ZZ l D F Q nL cells st pc (a0 :: a1 :: a2 :: a3 :: a4 :: a5 :: a6 :: a7 :: a8 :: some (.int v) :: t) stk :=
  z_ildG (i := 9) E rfl hdg k
theorem z_ist9 (E : EE D tys F cc nL own lvl) {v : Int32} {a0 a1 a2 a3 a4 a5 a6 a7 a8 : Option Value} {w : Option Value} {t : List (Option Value)} (hdg : decode cc pc = .ok (.istore 9, 2)) (k : ZZ l D F Q nL cells st (pc + 2) (a0 :: a1 :: a2 :: a3 :: a4 :: a5 :: a6 :: a7 :: a8 :: some (.int v) :: t) stk) : ZZ l D F Q nL cells st pc (a0 :: a1 :: a2 :: a3 :: a4 :: a5 :: a6 :: a7 :: a8 :: w :: t) (.int v :: stk) :=
  z_istG (i := 9) E (lv := a0 :: a1 :: a2 :: a3 :: a4 :: a5 :: a6 :: a7 :: a8 :: w :: t) (by show 9 < _; simp only [List.length_cons]; omega) hdg k
theorem z_inc9 (E : EE D tys F cc nL own lvl) {v : Nat} {a0 a1 a2 a3 a4 a5 a6 a7 a8 : Option Value} {t : List (Option Value)} (hdg : decode cc pc = .ok (.iinc 9 1, 3)) (k : ZZ l D F Q nL cells st (pc + 3) (a0 :: a1 :: a2 :: a3 :: a4 :: a5 :: a6 :: a7 :: a8 :: some (.int (nI (v + 1))) :: t) stk) : ZZ l D F Q nL cells st pc (a0 :: a1 :: a2 :: a3 :: a4 :: a5 :: a6 :: a7 :: a8 :: some (.int (nI v)) :: t) stk :=
  z_incG (i := 9) (lv := a0 :: a1 :: a2 :: a3 :: a4 :: a5 :: a6 :: a7 :: a8 :: some (.int (nI v)) :: t) E rfl (inc1 v) hdg k
theorem z_dec9 (E : EE D tys F cc nL own lvl) {v : Nat} (hv : 0 < v) {a0 a1 a2 a3 a4 a5 a6 a7 a8 : Option Value} {t : List (Option Value)} (hdg : decode cc pc = .ok (.iinc 9 (-1), 3)) (k : ZZ l D F Q nL cells st (pc + 3) (a0 :: a1 :: a2 :: a3 :: a4 :: a5 :: a6 :: a7 :: a8 :: some (.int (nI (v - 1))) :: t) stk) : ZZ l D F Q nL cells st pc (a0 :: a1 :: a2 :: a3 :: a4 :: a5 :: a6 :: a7 :: a8 :: some (.int (nI v)) :: t) stk :=
  z_incG (i := 9) (lv := a0 :: a1 :: a2 :: a3 :: a4 :: a5 :: a6 :: a7 :: a8 :: some (.int (nI v)) :: t) E rfl (dec1 hv) hdg k
theorem z_ild10 (E : EE D tys F cc nL own lvl) {v : Int32} {a0 a1 a2 a3 a4 a5 a6 a7 a8 a9 : Option Value} {t : List (Option Value)} (hdg : decode cc pc = .ok (.iload 10, 2)) (k : ZZ l D F Q nL cells st (pc + 2) (a0 :: a1 :: a2 :: a3 :: a4 :: a5 :: a6 :: a7 :: a8 :: a9 :: some (.int v) :: t) (.int v :: stk)) : ZZ l D F Q nL cells st pc (a0 :: a1 :: a2 :: a3 :: a4 :: a5 :: a6 :: a7 :: a8 :: a9 :: some (.int v) :: t) stk :=
  z_ildG (i := 10) E rfl hdg k
theorem z_ist10 (E : EE D tys F cc nL own lvl) {v : Int32} {a0 a1 a2 a3 a4 a5 a6 a7 a8 a9 : Option Value} {w : Option Value} {t : List (Option Value)} (hdg : decode cc pc = .ok (.istore 10, 2)) (k : ZZ l D F Q nL cells st (pc + 2) (a0 :: a1 :: a2 :: a3 :: a4 :: a5 :: a6 :: a7 :: a8 :: a9 :: some (.int v) :: t) stk) : ZZ l D F Q nL cells st pc (a0 :: a1 :: a2 :: a3 :: a4 :: a5 :: a6 :: a7 :: a8 :: a9 :: w :: t) (.int v :: stk) :=
  z_istG (i := 10) E (lv := a0 :: a1 :: a2 :: a3 :: a4 :: a5 :: a6 :: a7 :: a8 :: a9 :: w :: t) (by show 10 < _; simp only [List.length_cons]; omega) hdg k
theorem z_inc10 (E : EE D tys F cc nL own lvl) {v : Nat} {a0 a1 a2 a3 a4 a5 a6 a7 a8 a9 : Option Value} {t : List (Option Value)} (hdg : decode cc pc = .ok (.iinc 10 1, 3)) (k : ZZ l D F Q nL cells st (pc + 3) (a0 :: a1 :: a2 :: a3 :: a4 :: a5 :: a6 :: a7 :: a8 :: a9 :: some (.int (nI (v + 1))) :: t) stk) : ZZ l D F Q nL cells st pc (a0 :: a1 :: a2 :: a3 :: a4 :: a5 :: a6 :: a7 :: a8 :: a9 :: some (.int (nI v)) :: t) stk :=
  z_incG (i := 10) (lv := a0 :: a1 :: a2 :: a3 :: a4 :: a5 :: a6 :: a7 :: a8 :: a9 :: some (.int (nI v)) :: t) E rfl (inc1 v) hdg k
theorem z_dec10 (E : EE D tys F cc nL own lvl) {v : Nat} (hv : 0 < v) {a0 a1 a2 a3 a4 a5 a6 a7 a8 a9 : Option Value} {t : List (Option Value)} (hdg : decode cc pc = .ok (.iinc 10 (-1), 3)) (k : ZZ l D F Q nL cells st (pc + 3) (a0 :: a1 :: a2 :: a3 :: a4 :: a5 :: a6 :: a7 :: a8 :: a9 :: some (.int (nI (v - 1))) :: t) stk) : ZZ l D F Q nL cells st pc (a0 :: a1 :: a2 :: a3 :: a4 :: a5 :: a6 :: a7 :: a8 :: a9 :: some (.int (nI v)) :: t) stk :=
  z_incG (i := 10) (lv := a0 :: a1 :: a2 :: a3 :: a4 :: a5 :: a6 :: a7 :: a8 :: a9 :: some (.int (nI v)) :: t) E rfl (dec1 hv) hdg k
theorem z_ild11 (E : EE D tys F cc nL own lvl) {v : Int32} {a0 a1 a2 a3 a4 a5 a6 a7 a8 a9 a10 : Option Value} {t : List (Option Value)} (hdg : decode cc pc = .ok (.iload 11, 2)) (k : ZZ l D F Q nL cells st (pc + 2) (a0 :: a1 :: a2 :: a3 :: a4 :: a5 :: a6 :: a7 :: a8 :: a9 :: a10 :: some (.int v) :: t) (.int v :: stk)) : ZZ l D F Q nL cells st pc (a0 :: a1 :: a2 :: a3 :: a4 :: a5 :: a6 :: a7 :: a8 :: a9 :: a10 :: some (.int v) :: t) stk :=
  z_ildG (i := 11) E rfl hdg k
theorem z_ist11 (E : EE D tys F cc nL own lvl) {v : Int32} {a0 a1 a2 a3 a4 a5 a6 a7 a8 a9 a10 : Option Value} {w : Option Value} {t : List (Option Value)} (hdg : decode cc pc = .ok (.istore 11, 2)) (k : ZZ l D F Q nL cells st (pc + 2) (a0 :: a1 :: a2 :: a3 :: a4 :: a5 :: a6 :: a7 :: a8 :: a9 :: a10 :: some (.int v) :: t) stk) : ZZ l D F Q nL cells st pc (a0 :: a1 :: a2 :: a3 :: a4 :: a5 :: a6 :: a7 :: a8 :: a9 :: a10 :: w :: t) (.int v :: stk) :=
  z_istG (i := 11) E (lv := a0 :: a1 :: a2 :: a3 :: a4 :: a5 :: a6 :: a7 :: a8 :: a9 :: a10 :: w :: t) (by show 11 < _; simp only [List.length_cons]; omega) hdg k
theorem z_inc11 (E : EE D tys F cc nL own lvl) {v : Nat} {a0 a1 a2 a3 a4 a5 a6 a7 a8 a9 a10 : Option Value} {t : List (Option Value)} (hdg : decode cc pc = .ok (.iinc 11 1, 3)) (k : ZZ l D F Q nL cells st (pc + 3) (a0 :: a1 :: a2 :: a3 :: a4 :: a5 :: a6 :: a7 :: a8 :: a9 :: a10 :: some (.int (nI (v + 1))) :: t) stk) : ZZ l D F Q nL cells st pc (a0 :: a1 :: a2 :: a3 :: a4 :: a5 :: a6 :: a7 :: a8 :: a9 :: a10 :: some (.int (nI v)) :: t) stk :=
  z_incG (i := 11) (lv := a0 :: a1 :: a2 :: a3 :: a4 :: a5 :: a6 :: a7 :: a8 :: a9 :: a10 :: some (.int (nI v)) :: t) E rfl (inc1 v) hdg k
theorem z_dec11 (E : EE D tys F cc nL own lvl) {v : Nat} (hv : 0 < v) {a0 a1 a2 a3 a4 a5 a6 a7 a8 a9 a10 : Option Value} {t : List (Option Value)} (hdg : decode cc pc = .ok (.iinc 11 (-1), 3)) (k : ZZ l D F Q nL cells st (pc + 3) (a0 :: a1 :: a2 :: a3 :: a4 :: a5 :: a6 :: a7 :: a8 :: a9 :: a10 :: some (.int (nI (v - 1))) :: t) stk) : ZZ l D F Q nL cells st pc (a0 :: a1 :: a2 :: a3 :: a4 :: a5 :: a6 :: a7 :: a8 :: a9 :: a10 :: some (.int (nI v)) :: t) stk :=
  z_incG (i := 11) (lv := a0 :: a1 :: a2 :: a3 :: a4 :: a5 :: a6 :: a7 :: a8 :: a9 :: a10 :: some (.int (nI v)) :: t) E rfl (dec1 hv) hdg k
theorem z_ald0 (E : EE D tys F cc nL own lvl) {v : Nat} {t : List (Option Value)} (hdg : decode cc pc = .ok (.aload_n 0, 1)) (k : ZZ l D F Q nL cells st (pc + 1) (some (.ref v) :: t) (.ref v :: stk)) : ZZ l D F Q nL cells st pc (some (.ref v) :: t) stk :=
  z_aldnG (i := (0 : Fin 4)) E rfl hdg k
theorem z_ald1 (E : EE D tys F cc nL own lvl) {v : Nat} {a0 : Option Value} {t : List (Option Value)} (hdg : decode cc pc = .ok (.aload_n 1, 1)) (k : ZZ l D F Q nL cells st (pc + 1) (a0 :: some (.ref v) :: t) (.ref v :: stk)) : ZZ l D F Q nL cells st pc (a0 :: some (.ref v) :: t) stk :=
  z_aldnG (i := (1 : Fin 4)) E rfl hdg k
theorem z_ald2 (E : EE D tys F cc nL own lvl) {v : Nat} {a0 a1 : Option Value} {t : List (Option Value)} (hdg : decode cc pc = .ok (.aload_n 2, 1)) (k : ZZ l D F Q nL cells st (pc + 1) (a0 :: a1 :: some (.ref v) :: t) (.ref v :: stk)) : ZZ l D F Q nL cells st pc (a0 :: a1 :: some (.ref v) :: t) stk :=
  z_aldnG (i := (2 : Fin 4)) E rfl hdg k
theorem z_getG (E : EE D tys F cc nL own lvl) {C : String} {T : u_T} {N ci index a : Nat} {fs0 : List Value} {v : Value} (hin : ∀ w ∈ u_ws C T N, w ∈ lw_all) (he : (cells st)[0]? = some (a, .inr (ci, fs0))) (hc : vwCl[ci]? = some (C, T, N)) (k : Nat) (hk : k < N) (hq : Cond.fieldLink own index (T k).1 (T k).2.1 (T k).2.2.1 ∈ lw_all) (hv : fs0[k]? = some v) (hdg : decode cc pc = .ok (.getfield index, 3))
    (kk : ZZ l D F Q nL cells st (pc + 3) lv (v :: stk)) : ZZ l D F Q nL cells st pc lv (.ref a :: stk) :=
  fun H locs ls hP hD hS hl => va_get (D := D) (ci := ci) (v := v) (C := C) (T := T) (N := N) E.1 E.2.1 E.2.2.2.2.1 hin E.2.2.2.1 E.2.2.2.2.2.1 hP 0 he hc k hk (E.2.2.2.2.1 _ hq) (fun _ h9 => h9) hv hdg (kk H locs ls hP hD hS hl)
theorem z_putG (E : EE D tys F cc nL own lvl) {C : String} {T : u_T} {N ci index a : Nat} {fs0 : List Value} {v : Value} {ty : FieldType} {st' : S} (hin : ∀ w ∈ u_ws C T N, w ∈ lw_all) (ty0 : Nat → FieldType) (hty : ∀ k, k < N → parseFieldDescriptor (T k).2.2.1 = some (ty0 k)) (hnm : ∀ a, a < N → ∀ b, b < N → a ≠ b → (T a).2.1 ≠ (T b).2.1) (he : (cells st)[0]? = some (a, .inr (ci, fs0))) (hc : vwCl[ci]? = some (C, T, N)) (k : Nat) (hk : k < N) (hq : Cond.fieldLink own index (T k).1 (T k).2.1 (T k).2.2.1 ∈ lw_all) (hfin : (T k).2.2.2 = false) (hd : parseFieldDescriptor (T k).2.2.1 = some ty) (hn : narrow ty v = v) (hfit : fits ty v = true) (hl0 : k < fs0.length) (hs : (cells st).set 0 (a, .inr (ci, fs0.set k v)) = cells st') (hdg : decode cc pc = .ok (.putfield index, 3))
    (kk : ZZ l D F Q nL cells st' (pc + 3) lv stk) : ZZ l D F Q nL cells st pc lv (v :: .ref a :: stk) := by
  intro H locs ls hP hD hS hl
  refine va_put (D := D) (ci := ci) (v := v) (ty := ty) (C := C) (T := T) (N := N) E.1 E.2.1 E.2.2.2.2.1 hin ty0 hty hnm E.2.2.2.1 E.2.2.2.2.2.1 hP hD hS 0 he hc k hk (E.2.2.2.2.1 _ hq) (fun _ h9 => h9) hfin hd hn hfit hl0 hdg (fun H1 locs1 hP1 hD1 hS1 => ?_)
  rw [hs] at hP1 hD1
  exact kk H1 locs1 ls hP1 hD1 hS1 hl
theorem z_aldG (E : EE D tys F cc nL own lvl) {a n t0 : Nat} {cA : ClassId} {f : Nat → Int32} {j v : Nat} (q0 : Nat) (ha : (cells st)[q0]? = some (a, .inl (cA, n, .inl f))) (ht : tys[t0]? = some (cA, .int)) (hn : n < 2147483648) (hf : f j = nI v) (hj : j < n) (hdg : decode cc pc = .ok (.iaload, 1))
    (kk : ZZ l D F Q nL cells st (pc + 1) lv (.int (nI v) :: stk)) : ZZ l D F Q nL cells st pc lv (.int (nI j) :: .ref a :: stk) := by
  intro H locs ls hP hD hS hl
  refine va_iald E.1 E.2.1 E.2.2.2.2.2.1 hP q0 t0 ha ht (vp_in_nI hj hn) hdg ?_
  rw [nI_clamp (show j < 2 ^ 31 by omega), hf]
  exact kk H locs ls hP hD hS hl
theorem z_zldG (E : EE D tys F cc nL own lvl) {a n t0 : Nat} {cA : ClassId} {f : Nat → Int32} {j v : Nat} (q0 : Nat) (ha : (cells st)[q0]? = some (a, .inl (cA, n, .inl f))) (ht : tys[t0]? = some (cA, .boolean)) (hn : n < 2147483648) (hf : f j = nI v) (hj : j < n) (hdg : decode cc pc = .ok (.baload, 1))
    (kk : ZZ l D F Q nL cells st (pc + 1) lv (.int (nI v) :: stk)) : ZZ l D F Q nL cells st pc lv (.int (nI j) :: .ref a :: stk) := by
  intro H locs ls hP hD hS hl
  refine va_zald E.1 E.2.1 E.2.2.2.2.2.1 hP q0 t0 ha ht (vp_in_nI hj hn) hdg ?_
  rw [nI_clamp (show j < 2 ^ 31 by omega), hf]
  exact kk H locs ls hP hD hS hl
theorem z_astG (E : EE D tys F cc nL own lvl) {a n t0 : Nat} {cA : ClassId} {f : Nat → Int32} {j v : Nat} {st' : S} (q0 : Nat) (ha : (cells st)[q0]? = some (a, .inl (cA, n, .inl f))) (ht : tys[t0]? = some (cA, .int)) (hn : n < 2147483648) (hs : (cells st).set q0 (a, .inl (cA, n, .inl (upd f j (nI v)))) = cells st') (hj : j < n) (hdg : decode cc pc = .ok (.iastore, 1))
    (kk : ZZ l D F Q nL cells st' (pc + 1) lv stk) : ZZ l D F Q nL cells st pc lv (.int (nI v) :: .int (nI j) :: .ref a :: stk) := by
  intro H locs ls hP hD hS hl
  refine va_iast E.1 E.2.1 E.2.2.2.2.2.1 hP hD hS q0 t0 ha ht (vp_in_nI hj hn) hdg (fun H1 locs1 hP1 hD1 hS1 => ?_)
  rw [nI_clamp (show j < 2 ^ 31 by omega), hs] at hP1 hD1
  exact kk H1 locs1 ls hP1 hD1 hS1 hl
theorem nar_bool {v : Nat} (h : v ≤ 1) : vp_nar .boolean (nI v) = nI v := by
  rcases (show v = 0 ∨ v = 1 by omega) with q | q <;> subst q <;> decide
theorem z_zstG (E : EE D tys F cc nL own lvl) {a n t0 : Nat} {cA : ClassId} {f : Nat → Int32} {j v : Nat} {st' : S} (q0 : Nat) (ha : (cells st)[q0]? = some (a, .inl (cA, n, .inl f))) (ht : tys[t0]? = some (cA, .boolean)) (hn : n < 2147483648) (hs : (cells st).set q0 (a, .inl (cA, n, .inl (upd f j (nI v)))) = cells st') (hv : v ≤ 1) (hj : j < n) (hdg : decode cc pc = .ok (.bastore, 1))
    (kk : ZZ l D F Q nL cells st' (pc + 1) lv stk) : ZZ l D F Q nL cells st pc lv (.int (nI v) :: .int (nI j) :: .ref a :: stk) := by
  intro H locs ls hP hD hS hl
  refine va_zast E.1 E.2.1 E.2.2.2.2.2.1 hP hD hS q0 t0 ha ht (vp_in_nI hj hn) hdg (fun H1 locs1 hP1 hD1 hS1 => ?_)
  rw [nI_clamp (show j < 2 ^ 31 by omega), nar_bool hv, hs] at hP1 hD1
  exact kk H1 locs1 ls hP1 hD1 hS1 hl
def hdOk (y : MethodName) (C : String) (n : Nat) : Prop := y.cls = C ∧ y.cls ≠ "java/lang/invoke/MethodHandle" ∧ y.cls ≠ "java/lang/invoke/VarHandle" ∧ (parseMethodDescriptor y.desc).map (fun d => d.parameters.length) = some n
theorem PP.pre {C : String} {o ci : Nat} {T : u_T} {N : Nat} {fs0 : List Value} {As : List Value} {s : State} {H : Heap} {A : Nat → Prop} (hK : va_K D vwCl tys s) (hP : va_P D vwCl (cells st) H) (hD : va_D A (cells st)) (he : (cells st)[0]? = some (o, .inr (ci, fs0))) (hc : vwCl[ci]? = some (C, T, N)) : PreV s H C o (PP D tys cells (.ref o :: As) st H.size) As :=
  ⟨fun a U g mk q => by obtain ⟨q0, q1, qP, qK, qD⟩ := q; exact ⟨q0, q1, qP, va_K.moved (u := U) (U := U.calling g mk a) (Vm.Alike.refl U.vm) qK, qD⟩, va_recv hK hP hc he, fun U hU hW => ⟨rfl, by rw [hU], by rw [hU]; exact hP, va_K.moved hW.alike hK, hD.weaken (fun _ _ _ _ => trivial)⟩⟩
theorem z_calli {y : MethodName} {cd : ByteArray} {nL' j o ci n index : Nat} {rt : FieldType} {T : u_T} {N : Nat} {fs0 As rest : List Value} {post : Int32 → S → Prop} (E : EE D tys F cc nL own lvl) (hM : CtI l D tys cells y cd nL' rt j (.ref o :: As) st post) (hq : GoodIn lw_all (wsV own index own y (ws_ y cd nL' (some rt)))) (hd : hdOk y own n) (hlen : As.length = n) (hj : j < lvl) (hm : nL' ≤ 21) (he : (cells st)[0]? = some (o, .inr (ci, fs0))) (hc : vwCl[ci]? = some (own, T, N)) (hrest : (rest.map fun v => v.category).sum ≤ 8) (hstk : stk = As.reverse ++ .ref o :: rest) (hdg : decode cc pc = .ok (.invokevirtual index, 3))
    (kk : ∀ (r : Int32) (u : S), post r u → ZZ l D F Q nL cells u (pc + 3) lv (.int r :: rest)) : ZZ l D F Q nL cells st pc lv stk := by
  intro H locs ls hP hD hS hl
  obtain ⟨hx, hb, hml, hown, hts, hK, hA, h1, h2, h3, h4⟩ := E
  have hFc : ∀ q, va_A (cells st) H.size q → fA F q := by
    intro q h
    rcases h with ⟨k, e, h⟩ | h
    · exact hD.2 k _ h
    · exact hA q (Nat.le_trans hS.1 h)
  refine va_calli (va_runV (As := As) (rest := rest) ⟨hx, hb, hml, hown, hts⟩ (hM H.size) (cwV n hts hq rfl rfl rfl hd ⟨by simp only [rmN]; omega, by simp only [rmN]; omega⟩) (PP.pre hK hP hD he hc) rfl hlen (by show ls.size = nL; exact hl.1) hstk (lv_room (m := fm F) (pc := pc) (ls := ls) (rest := stk) hrest) hdg ⟨h3, h4⟩) hS (fun q _ h => hFc q h) hFc (fun r u t H1 locs1 ht hvm hp hB hz1 hk1 hS1 => ?_)
  exact kk r u hp H1 locs1 ls (by rw [← ht]; exact hB.1) (hB.2.2.weaken (fun k q _ h => hFc q.1 h)) hS1 hl
theorem z_callv {y : MethodName} {cd : ByteArray} {nL' j o ci n index : Nat} {T : u_T} {N : Nat} {fs0 As rest : List Value} {post : S → Prop} (E : EE D tys F cc nL own lvl) (hM : CtV l D tys cells y cd nL' j (.ref o :: As) st post) (hq : GoodIn lw_all (wsV own index own y (ws_ y cd nL' none))) (hd : hdOk y own n) (hlen : As.length = n) (hj : j < lvl) (hm : nL' ≤ 21) (he : (cells st)[0]? = some (o, .inr (ci, fs0))) (hc : vwCl[ci]? = some (own, T, N)) (hrest : (rest.map fun v => v.category).sum ≤ 8) (hstk : stk = As.reverse ++ .ref o :: rest) (hdg : decode cc pc = .ok (.invokevirtual index, 3))
    (kk : ∀ (u : S), post u → ZZ l D F Q nL cells u (pc + 3) lv rest) : ZZ l D F Q nL cells st pc lv stk := by
  intro H locs ls hP hD hS hl
  obtain ⟨hx, hb, hml, hown, hts, hK, hA, h1, h2, h3, h4⟩ := E
  have hFc : ∀ q, va_A (cells st) H.size q → fA F q := by
    intro q h
    rcases h with ⟨k, e, h⟩ | h
    · exact hD.2 k _ h
    · exact hA q (Nat.le_trans hS.1 h)
  refine va_callv (va_runV (As := As) (rest := rest) ⟨hx, hb, hml, hown, hts⟩ (hM H.size) (cwV n hts hq rfl rfl rfl hd ⟨by simp only [rmN]; omega, by simp only [rmN]; omega⟩) (PP.pre hK hP hD he hc) rfl hlen (by show ls.size = nL; exact hl.1) hstk (lv_room (m := fm F) (pc := pc) (ls := ls) (rest := stk) hrest) hdg ⟨h3, h4⟩) hS (fun q _ h => hFc q h) hFc (fun u t H1 locs1 ht hvm hp hB hz1 hk1 hS1 => ?_)
  exact kk u hp H1 locs1 ls (by rw [← ht]; exact hB.1) (hB.2.2.weaken (fun k q _ h => hFc q.1 h)) hS1 hl
end ZROWS
/-! the two worlds -/
def upN (f : Nat → Nat) (j x : Nat) : Nat → Nat := fun k => if k = j then x else f k
theorem upN_s {f : Nat → Nat} {j x : Nat} : upN f j x j = x := by simp [upN]
theorem upN_n {f : Nat → Nat} {j x k : Nat} (h : k ≠ j) : upN f j x k = f k := by simp [upN, h]
theorem upd_nI (f : Nat → Nat) (j x : Nat) : upd (fun k => nI (f k)) j (nI x) = fun k => nI (upN f j x k) := by
  funext k
  by_cases h : k = j <;> simp [upd, upN, h]
def hN (a b c : Nat) : Nat → Nat := fun k => match k with
  | 0 => a
  | 1 => b
  | 2 => c
  | _ => 0
theorem hN_set0 (a b c x : Nat) : upN (hN a b c) 0 x = hN x b c := by
  funext k
  match k with
  | 0 => rfl
  | 1 => rfl
  | 2 => rfl
  | k + 3 => simp [upN, hN]
theorem hN_set1 (a b c x : Nat) : upN (hN a b c) 1 x = hN a x c := by
  funext k
  match k with
  | 0 => rfl
  | 1 => rfl
  | 2 => rfl
  | k + 3 => simp [upN, hN]
theorem hN_set2 (a b c x : Nat) : upN (hN a b c) 2 x = hN a b x := by
  funext k
  match k with
  | 0 => rfl
  | 1 => rfl
  | 2 => rfl
  | k + 3 => simp [upN, hN]
/-- launch, class numbers, the int and boolean array classes, the object's address, its arrays' addresses -/
abbrev GG : Type := Launch × va_G × ClassId × ClassId × Nat × (Nat → Nat)
abbrev gl (g : GG) : Launch := g.1
abbrev gD (g : GG) : va_G := g.2.1
abbrev gI (g : GG) : ClassId := g.2.2.1
abbrev gZ (g : GG) : ClassId := g.2.2.2.1
abbrev go (g : GG) : Nat := g.2.2.2.2.1
abbrev ga (g : GG) : Nat → Nat := g.2.2.2.2.2
abbrev gtys (g : GG) : List (ClassId × FieldType) := [(gI g, .int), (gZ g, .boolean)]
abbrev S0 : Type := Nat × Nat × Nat × Nat × (Nat → Nat)
def cells0 (g : GG) (u : S0) : va_W := [(go g, .inr (0, [.ref (ga g 0), .int (nI u.2.2.2.1), .ref (ga g 1)])), (ga g 0, .inl (gI g, 3, .inl (fun k => nI (hN u.1 u.2.1 u.2.2.1 k)))), (ga g 1, .inl (gI g, 800, .inl (fun k => nI (u.2.2.2.2 k))))]
abbrev S1 : Type := Nat × Nat × Nat × Nat × (Nat → Nat) × (Nat → Nat) × (Nat → Nat) × (Nat → Nat) × (Nat → Nat) × (Nat → Nat) × (Nat → Nat) × Nat × (Nat → Nat)
def cells1 (g : GG) (u : S1) : va_W := [(go g, .inr (1, [.ref (ga g 0), .int (nI u.2.2.2.1), .ref (ga g 1), .ref (ga g 2), .ref (ga g 3), .ref (ga g 4), .ref (ga g 5), .ref (ga g 6), .ref (ga g 7), .int (nI u.2.2.2.2.2.2.2.2.2.2.2.1), .ref (ga g 8)])), (ga g 0, .inl (gI g, 3, .inl (fun k => nI (hN u.1 u.2.1 u.2.2.1 k)))), (ga g 1, .inl (gI g, 800, .inl (fun k => nI (u.2.2.2.2.1 k)))), (ga g 2, .inl (gI g, 800, .inl (fun k => nI (u.2.2.2.2.2.1 k)))), (ga g 3, .inl (gI g, 800, .inl (fun k => nI (u.2.2.2.2.2.2.1 k)))), (ga g 4, .inl (gZ g, 22816, .inl (fun k => nI (u.2.2.2.2.2.2.2.1 k)))), (ga g 5, .inl (gI g, 22816, .inl (fun k => nI (u.2.2.2.2.2.2.2.2.1 k)))), (ga g 6, .inl (gZ g, 64, .inl (fun k => nI (u.2.2.2.2.2.2.2.2.2.1 k)))), (ga g 7, .inl (gZ g, 3721, .inl (fun k => nI (u.2.2.2.2.2.2.2.2.2.2.1 k)))), (ga g 8, .inl (gI g, 800, .inl (fun k => nI (u.2.2.2.2.2.2.2.2.2.2.2.2 k))))]
abbrev Z0 (g : GG) (F : Fx) (Q : State → Prop) (nL : Nat) (st : S0) (pc : Nat) (lv : List (Option Value)) (stk : List Value) : Prop := ZZ (gl g) (gD g) F Q nL (cells0 g) st pc lv stk
abbrev Z1 (g : GG) (F : Fx) (Q : State → Prop) (nL : Nat) (st : S1) (pc : Nat) (lv : List (Option Value)) (stk : List Value) : Prop := ZZ (gl g) (gD g) F Q nL (cells1 g) st pc lv stk
abbrev E0 (g : GG) (F : Fx) (cc : ByteArray) (nL lvl : Nat) : Prop := EE (gD g) (gtys g) F cc nL RX0 lvl
abbrev E1 (g : GG) (F : Fx) (cc : ByteArray) (nL lvl : Nat) : Prop := EE (gD g) (gtys g) F cc nL RX1 lvl
abbrev C0I (g : GG) (y : MethodName) (cd : ByteArray) (nL : Nat) (rt : FieldType) (lvl : Nat) (As : List Value) (st : S0) (post : Int32 → S0 → Prop) : Prop := CtI (gl g) (gD g) (gtys g) (cells0 g) y cd nL rt lvl (.ref (go g) :: As) st post
abbrev C0V (g : GG) (y : MethodName) (cd : ByteArray) (nL : Nat) (lvl : Nat) (As : List Value) (st : S0) (post : S0 → Prop) : Prop := CtV (gl g) (gD g) (gtys g) (cells0 g) y cd nL lvl (.ref (go g) :: As) st post
abbrev C1I (g : GG) (y : MethodName) (cd : ByteArray) (nL : Nat) (rt : FieldType) (lvl : Nat) (As : List Value) (st : S1) (post : Int32 → S1 → Prop) : Prop := CtI (gl g) (gD g) (gtys g) (cells1 g) y cd nL rt lvl (.ref (go g) :: As) st post
abbrev C1V (g : GG) (y : MethodName) (cd : ByteArray) (nL : Nat) (lvl : Nat) (As : List Value) (st : S1) (post : S1 → Prop) : Prop := CtV (gl g) (gD g) (gtys g) (cells1 g) y cd nL lvl (.ref (go g) :: As) st post
section WROWS
variable {g : GG} {F : Fx} {Q : State → Prop} {nL pc lvl : Nat} {lv : List (Option Value)} {stk : List Value} {cc : ByteArray}
theorem z0_get_heaps {st : S0} (E : E0 g F cc nL lvl) (hdg : decode cc pc = .ok (.getfield 7, 3)) (kk : Z0 g F Q nL st (pc + 3) lv (.ref (ga g 0) :: stk)) : Z0 g F Q nL st pc lv (.ref (go g) :: stk) :=
  z_getG E (C := RX0) (T := TX0) (N := 3) (ci := 0) in_X0 rfl rfl 0 (by decide) q47 rfl hdg kk
theorem z0_get_moves {st : S0} (E : E0 g F cc nL lvl) (hdg : decode cc pc = .ok (.getfield 13, 3)) (kk : Z0 g F Q nL st (pc + 3) lv (.ref (ga g 1) :: stk)) : Z0 g F Q nL st pc lv (.ref (go g) :: stk) :=
  z_getG E (C := RX0) (T := TX0) (N := 3) (ci := 0) in_X0 rfl rfl 2 (by decide) q49 rfl hdg kk
theorem z0_get_found {a b c n : Nat} {mv : Nat → Nat} (E : E0 g F cc nL lvl) (hdg : decode cc pc = .ok (.getfield 16, 3)) (kk : Z0 g F Q nL (a, b, c, n, mv) (pc + 3) lv (.int (nI n) :: stk)) : Z0 g F Q nL (a, b, c, n, mv) pc lv (.ref (go g) :: stk) :=
  z_getG E (C := RX0) (T := TX0) (N := 3) (ci := 0) in_X0 rfl rfl 1 (by decide) q48 rfl hdg kk
theorem z0_put_found {a b c n : Nat} {mv : Nat → Nat} {x : Nat} (E : E0 g F cc nL lvl) (hdg : decode cc pc = .ok (.putfield 16, 3)) (kk : Z0 g F Q nL (a, b, c, x, mv) (pc + 3) lv stk) : Z0 g F Q nL (a, b, c, n, mv) pc lv (.int (nI x) :: .ref (go g) :: stk) :=
  z_putG E (C := RX0) (T := TX0) (N := 3) (ci := 0) (ty := .int) in_X0 tyX0 tyX0_ok nmX0 rfl rfl 1 (by decide) q48 rfl (by decide +kernel) rfl rfl (by simp) rfl hdg kk
theorem z0_h0 {a b c n : Nat} {mv : Nat → Nat} (E : E0 g F cc nL lvl) (hdg : decode cc pc = .ok (.iaload, 1)) (kk : Z0 g F Q nL (a, b, c, n, mv) (pc + 1) lv (.int (nI a) :: stk)) : Z0 g F Q nL (a, b, c, n, mv) pc lv (.int (nI 0) :: .ref (ga g 0) :: stk) :=
  z_aldG E 1 (t0 := 0) rfl rfl (by decide) rfl (by decide) hdg kk
theorem z0_H0 {a b c n : Nat} {mv : Nat → Nat} {t : List (Option Value)} (E : E0 g F cc nL lvl) (d0 : decode cc pc = .ok (.aload_n 0, 1)) (d1 : decode cc (pc + 1) = .ok (.getfield 7, 3)) (d2 : decode cc (pc + 4) = .ok (.iconst 0, 1)) (d3 : decode cc (pc + 5) = .ok (.iaload, 1)) (kk : Z0 g F Q nL (a, b, c, n, mv) (pc + 6) (some (.ref (go g)) :: t) (.int (nI a) :: stk)) : Z0 g F Q nL (a, b, c, n, mv) pc (some (.ref (go g)) :: t) stk :=
  z_ald0 E d0 (z0_get_heaps E d1 (z_ic0 E d2 (z0_h0 E d3 kk)))
theorem z0_hset0 {a b c n : Nat} {mv : Nat → Nat} {x : Nat} (E : E0 g F cc nL lvl) (hdg : decode cc pc = .ok (.iastore, 1)) (kk : Z0 g F Q nL (x, b, c, n, mv) (pc + 1) lv stk) : Z0 g F Q nL (a, b, c, n, mv) pc lv (.int (nI x) :: .int (nI 0) :: .ref (ga g 0) :: stk) :=
  z_astG E 1 (t0 := 0) rfl rfl (by decide) (by rw [upd_nI, hN_set0]; rfl) (by decide) hdg kk
theorem z0_h1 {a b c n : Nat} {mv : Nat → Nat} (E : E0 g F cc nL lvl) (hdg : decode cc pc = .ok (.iaload, 1)) (kk : Z0 g F Q nL (a, b, c, n, mv) (pc + 1) lv (.int (nI b) :: stk)) : Z0 g F Q nL (a, b, c, n, mv) pc lv (.int (nI 1) :: .ref (ga g 0) :: stk) :=
  z_aldG E 1 (t0 := 0) rfl rfl (by decide) rfl (by decide) hdg kk
theorem z0_H1 {a b c n : Nat} {mv : Nat → Nat} {t : List (Option Value)} (E : E0 g F cc nL lvl) (d0 : decode cc pc = .ok (.aload_n 0, 1)) (d1 : decode cc (pc + 1) = .ok (.getfield 7, 3)) (d2 : decode cc (pc + 4) = .ok (.iconst 1, 1)) (d3 : decode cc (pc + 5) = .ok (.iaload, 1)) (kk : Z0 g F Q nL (a, b, c, n, mv) (pc + 6) (some (.ref (go g)) :: t) (.int (nI b) :: stk)) : Z0 g F Q nL (a, b, c, n, mv) pc (some (.ref (go g)) :: t) stk :=
  z_ald0 E d0 (z0_get_heaps E d1 (z_ic1 E d2 (z0_h1 E d3 kk)))
theorem z0_hset1 {a b c n : Nat} {mv : Nat → Nat} {x : Nat} (E : E0 g F cc nL lvl) (hdg : decode cc pc = .ok (.iastore, 1)) (kk : Z0 g F Q nL (a, x, c, n, mv) (pc + 1) lv stk) : Z0 g F Q nL (a, b, c, n, mv) pc lv (.int (nI x) :: .int (nI 1) :: .ref (ga g 0) :: stk) :=
  z_astG E 1 (t0 := 0) rfl rfl (by decide) (by rw [upd_nI, hN_set1]; rfl) (by decide) hdg kk
theorem z0_h2 {a b c n : Nat} {mv : Nat → Nat} (E : E0 g F cc nL lvl) (hdg : decode cc pc = .ok (.iaload, 1)) (kk : Z0 g F Q nL (a, b, c, n, mv) (pc + 1) lv (.int (nI c) :: stk)) : Z0 g F Q nL (a, b, c, n, mv) pc lv (.int (nI 2) :: .ref (ga g 0) :: stk) :=
  z_aldG E 1 (t0 := 0) rfl rfl (by decide) rfl (by decide) hdg kk
theorem z0_H2 {a b c n : Nat} {mv : Nat → Nat} {t : List (Option Value)} (E : E0 g F cc nL lvl) (d0 : decode cc pc = .ok (.aload_n 0, 1)) (d1 : decode cc (pc + 1) = .ok (.getfield 7, 3)) (d2 : decode cc (pc + 4) = .ok (.iconst 2, 1)) (d3 : decode cc (pc + 5) = .ok (.iaload, 1)) (kk : Z0 g F Q nL (a, b, c, n, mv) (pc + 6) (some (.ref (go g)) :: t) (.int (nI c) :: stk)) : Z0 g F Q nL (a, b, c, n, mv) pc (some (.ref (go g)) :: t) stk :=
  z_ald0 E d0 (z0_get_heaps E d1 (z_ic2 E d2 (z0_h2 E d3 kk)))
theorem z0_hset2 {a b c n : Nat} {mv : Nat → Nat} {x : Nat} (E : E0 g F cc nL lvl) (hdg : decode cc pc = .ok (.iastore, 1)) (kk : Z0 g F Q nL (a, b, x, n, mv) (pc + 1) lv stk) : Z0 g F Q nL (a, b, c, n, mv) pc lv (.int (nI x) :: .int (nI 2) :: .ref (ga g 0) :: stk) :=
  z_astG E 1 (t0 := 0) rfl rfl (by decide) (by rw [upd_nI, hN_set2]; rfl) (by decide) hdg kk
theorem z0_hi {a b c n : Nat} {mv : Nat → Nat} {j : Nat} (E : E0 g F cc nL lvl) (hj : j < 3) (hdg : decode cc pc = .ok (.iaload, 1)) (kk : Z0 g F Q nL (a, b, c, n, mv) (pc + 1) lv (.int (nI (hN a b c j)) :: stk)) : Z0 g F Q nL (a, b, c, n, mv) pc lv (.int (nI j) :: .ref (ga g 0) :: stk) :=
  z_aldG E 1 (t0 := 0) rfl rfl (by decide) rfl hj hdg kk
theorem z0_ld_moves {a b c n : Nat} {mv : Nat → Nat} {j : Nat} (E : E0 g F cc nL lvl) (hj : j < 800) (hdg : decode cc pc = .ok (.iaload, 1)) (kk : Z0 g F Q nL (a, b, c, n, mv) (pc + 1) lv (.int (nI (mv j)) :: stk)) : Z0 g F Q nL (a, b, c, n, mv) pc lv (.int (nI j) :: .ref (ga g 1) :: stk) :=
  z_aldG E 2 (t0 := 0) rfl rfl (by decide) rfl hj hdg kk
theorem z0_st_moves {a b c n : Nat} {mv : Nat → Nat} {j x : Nat} (E : E0 g F cc nL lvl) (hj : j < 800) (hdg : decode cc pc = .ok (.iastore, 1)) (kk : Z0 g F Q nL (a, b, c, n, upN mv j x) (pc + 1) lv stk) : Z0 g F Q nL (a, b, c, n, mv) pc lv (.int (nI x) :: .int (nI j) :: .ref (ga g 1) :: stk) :=
  z_astG E 2 (t0 := 0) rfl rfl (by decide) (by rw [upd_nI]; rfl) hj hdg kk
theorem z1_get_heaps {st : S1} (E : E1 g F cc nL lvl) (hdg : decode cc pc = .ok (.getfield 7, 3)) (kk : Z1 g F Q nL st (pc + 3) lv (.ref (ga g 0) :: stk)) : Z1 g F Q nL st pc lv (.ref (go g) :: stk) :=
  z_getG E (C := RX1) (T := TX1) (N := 11) (ci := 1) in_X1 rfl rfl 0 (by decide) q173 rfl hdg kk
theorem z1_get_xs {st : S1} (E : E1 g F cc nL lvl) (hdg : decode cc pc = .ok (.getfield 13, 3)) (kk : Z1 g F Q nL st (pc + 3) lv (.ref (ga g 1) :: stk)) : Z1 g F Q nL st pc lv (.ref (go g) :: stk) :=
  z_getG E (C := RX1) (T := TX1) (N := 11) (ci := 1) in_X1 rfl rfl 2 (by decide) q175 rfl hdg kk
theorem z1_get_ys {st : S1} (E : E1 g F cc nL lvl) (hdg : decode cc pc = .ok (.getfield 16, 3)) (kk : Z1 g F Q nL st (pc + 3) lv (.ref (ga g 2) :: stk)) : Z1 g F Q nL st pc lv (.ref (go g) :: stk) :=
  z_getG E (C := RX1) (T := TX1) (N := 11) (ci := 1) in_X1 rfl rfl 3 (by decide) q176 rfl hdg kk
theorem z1_get_zs {st : S1} (E : E1 g F cc nL lvl) (hdg : decode cc pc = .ok (.getfield 19, 3)) (kk : Z1 g F Q nL st (pc + 3) lv (.ref (ga g 3) :: stk)) : Z1 g F Q nL st pc lv (.ref (go g) :: stk) :=
  z_getG E (C := RX1) (T := TX1) (N := 11) (ci := 1) in_X1 rfl rfl 4 (by decide) q177 rfl hdg kk
theorem z1_get_win {st : S1} (E : E1 g F cc nL lvl) (hdg : decode cc pc = .ok (.getfield 22, 3)) (kk : Z1 g F Q nL st (pc + 3) lv (.ref (ga g 4) :: stk)) : Z1 g F Q nL st pc lv (.ref (go g) :: stk) :=
  z_getG E (C := RX1) (T := TX1) (N := 11) (ci := 1) in_X1 rfl rfl 5 (by decide) q178 rfl hdg kk
theorem z1_get_values {st : S1} (E : E1 g F cc nL lvl) (hdg : decode cc pc = .ok (.getfield 26, 3)) (kk : Z1 g F Q nL st (pc + 3) lv (.ref (ga g 5) :: stk)) : Z1 g F Q nL st pc lv (.ref (go g) :: stk) :=
  z_getG E (C := RX1) (T := TX1) (N := 11) (ci := 1) in_X1 rfl rfl 6 (by decide) q179 rfl hdg kk
theorem z1_get_taken {st : S1} (E : E1 g F cc nL lvl) (hdg : decode cc pc = .ok (.getfield 29, 3)) (kk : Z1 g F Q nL st (pc + 3) lv (.ref (ga g 6) :: stk)) : Z1 g F Q nL st pc lv (.ref (go g) :: stk) :=
  z_getG E (C := RX1) (T := TX1) (N := 11) (ci := 1) in_X1 rfl rfl 7 (by decide) q180 rfl hdg kk
theorem z1_get_limited {st : S1} (E : E1 g F cc nL lvl) (hdg : decode cc pc = .ok (.getfield 32, 3)) (kk : Z1 g F Q nL st (pc + 3) lv (.ref (ga g 7) :: stk)) : Z1 g F Q nL st pc lv (.ref (go g) :: stk) :=
  z_getG E (C := RX1) (T := TX1) (N := 11) (ci := 1) in_X1 rfl rfl 8 (by decide) q181 rfl hdg kk
theorem z1_get_numbers {st : S1} (E : E1 g F cc nL lvl) (hdg : decode cc pc = .ok (.getfield 35, 3)) (kk : Z1 g F Q nL st (pc + 3) lv (.ref (ga g 8) :: stk)) : Z1 g F Q nL st pc lv (.ref (go g) :: stk) :=
  z_getG E (C := RX1) (T := TX1) (N := 11) (ci := 1) in_X1 rfl rfl 10 (by decide) q183 rfl hdg kk
theorem z1_get_count {a b c ct fd : Nat} {xs ys zs wi va tk li nu : Nat → Nat} (E : E1 g F cc nL lvl) (hdg : decode cc pc = .ok (.getfield 38, 3)) (kk : Z1 g F Q nL (a, b, c, ct, xs, ys, zs, wi, va, tk, li, fd, nu) (pc + 3) lv (.int (nI ct) :: stk)) : Z1 g F Q nL (a, b, c, ct, xs, ys, zs, wi, va, tk, li, fd, nu) pc lv (.ref (go g) :: stk) :=
  z_getG E (C := RX1) (T := TX1) (N := 11) (ci := 1) in_X1 rfl rfl 1 (by decide) q174 rfl hdg kk
theorem z1_get_found {a b c ct fd : Nat} {xs ys zs wi va tk li nu : Nat → Nat} (E : E1 g F cc nL lvl) (hdg : decode cc pc = .ok (.getfield 80, 3)) (kk : Z1 g F Q nL (a, b, c, ct, xs, ys, zs, wi, va, tk, li, fd, nu) (pc + 3) lv (.int (nI fd) :: stk)) : Z1 g F Q nL (a, b, c, ct, xs, ys, zs, wi, va, tk, li, fd, nu) pc lv (.ref (go g) :: stk) :=
  z_getG E (C := RX1) (T := TX1) (N := 11) (ci := 1) in_X1 rfl rfl 9 (by decide) q182 rfl hdg kk
theorem z1_put_count {a b c ct fd : Nat} {xs ys zs wi va tk li nu : Nat → Nat} {x : Nat} (E : E1 g F cc nL lvl) (hdg : decode cc pc = .ok (.putfield 38, 3)) (kk : Z1 g F Q nL (a, b, c, x, xs, ys, zs, wi, va, tk, li, fd, nu) (pc + 3) lv stk) : Z1 g F Q nL (a, b, c, ct, xs, ys, zs, wi, va, tk, li, fd, nu) pc lv (.int (nI x) :: .ref (go g) :: stk) :=
  z_putG E (C := RX1) (T := TX1) (N := 11) (ci := 1) (ty := .int) in_X1 tyX1 tyX1_ok nmX1 rfl rfl 1 (by decide) q174 rfl (by decide +kernel) rfl rfl (by simp) rfl hdg kk
theorem z1_put_found {a b c ct fd : Nat} {xs ys zs wi va tk li nu : Nat → Nat} {x : Nat} (E : E1 g F cc nL lvl) (hdg : decode cc pc = .ok (.putfield 80, 3)) (kk : Z1 g F Q nL (a, b, c, ct, xs, ys, zs, wi, va, tk, li, x, nu) (pc + 3) lv stk) : Z1 g F Q nL (a, b, c, ct, xs, ys, zs, wi, va, tk, li, fd, nu) pc lv (.int (nI x) :: .ref (go g) :: stk) :=
  z_putG E (C := RX1) (T := TX1) (N := 11) (ci := 1) (ty := .int) in_X1 tyX1 tyX1_ok nmX1 rfl rfl 9 (by decide) q182 rfl (by decide +kernel) rfl rfl (by simp) rfl hdg kk
theorem z1_h0 {a b c ct fd : Nat} {xs ys zs wi va tk li nu : Nat → Nat} (E : E1 g F cc nL lvl) (hdg : decode cc pc = .ok (.iaload, 1)) (kk : Z1 g F Q nL (a, b, c, ct, xs, ys, zs, wi, va, tk, li, fd, nu) (pc + 1) lv (.int (nI a) :: stk)) : Z1 g F Q nL (a, b, c, ct, xs, ys, zs, wi, va, tk, li, fd, nu) pc lv (.int (nI 0) :: .ref (ga g 0) :: stk) :=
  z_aldG E 1 (t0 := 0) rfl rfl (by decide) rfl (by decide) hdg kk
theorem z1_H0 {a b c ct fd : Nat} {xs ys zs wi va tk li nu : Nat → Nat} {t : List (Option Value)} (E : E1 g F cc nL lvl) (d0 : decode cc pc = .ok (.aload_n 0, 1)) (d1 : decode cc (pc + 1) = .ok (.getfield 7, 3)) (d2 : decode cc (pc + 4) = .ok (.iconst 0, 1)) (d3 : decode cc (pc + 5) = .ok (.iaload, 1)) (kk : Z1 g F Q nL (a, b, c, ct, xs, ys, zs, wi, va, tk, li, fd, nu) (pc + 6) (some (.ref (go g)) :: t) (.int (nI a) :: stk)) : Z1 g F Q nL (a, b, c, ct, xs, ys, zs, wi, va, tk, li, fd, nu) pc (some (.ref (go g)) :: t) stk :=
  z_ald0 E d0 (z1_get_heaps E d1 (z_ic0 E d2 (z1_h0 E d3 kk)))
theorem z1_hset0 {a b c ct fd : Nat} {xs ys zs wi va tk li nu : Nat → Nat} {x : Nat} (E : E1 g F cc nL lvl) (hdg : decode cc pc = .ok (.iastore, 1)) (kk : Z1 g F Q nL (x, b, c, ct, xs, ys, zs, wi, va, tk, li, fd, nu) (pc + 1) lv stk) : Z1 g F Q nL (a, b, c, ct, xs, ys, zs, wi, va, tk, li, fd, nu) pc lv (.int (nI x) :: .int (nI 0) :: .ref (ga g 0) :: stk) :=
  z_astG E 1 (t0 := 0) rfl rfl (by decide) (by rw [upd_nI, hN_set0]; rfl) (by decide) hdg kk
theorem z1_h1 {a b c ct fd : Nat} {xs ys zs wi va tk li nu : Nat → Nat} (E : E1 g F cc nL lvl) (hdg : decode cc pc = .ok (.iaload, 1)) (kk : Z1 g F Q nL (a, b, c, ct, xs, ys, zs, wi, va, tk, li, fd, nu) (pc + 1) lv (.int (nI b) :: stk)) : Z1 g F Q nL (a, b, c, ct, xs, ys, zs, wi, va, tk, li, fd, nu) pc lv (.int (nI 1) :: .ref (ga g 0) :: stk) :=
  z_aldG E 1 (t0 := 0) rfl rfl (by decide) rfl (by decide) hdg kk
theorem z1_H1 {a b c ct fd : Nat} {xs ys zs wi va tk li nu : Nat → Nat} {t : List (Option Value)} (E : E1 g F cc nL lvl) (d0 : decode cc pc = .ok (.aload_n 0, 1)) (d1 : decode cc (pc + 1) = .ok (.getfield 7, 3)) (d2 : decode cc (pc + 4) = .ok (.iconst 1, 1)) (d3 : decode cc (pc + 5) = .ok (.iaload, 1)) (kk : Z1 g F Q nL (a, b, c, ct, xs, ys, zs, wi, va, tk, li, fd, nu) (pc + 6) (some (.ref (go g)) :: t) (.int (nI b) :: stk)) : Z1 g F Q nL (a, b, c, ct, xs, ys, zs, wi, va, tk, li, fd, nu) pc (some (.ref (go g)) :: t) stk :=
  z_ald0 E d0 (z1_get_heaps E d1 (z_ic1 E d2 (z1_h1 E d3 kk)))
theorem z1_hset1 {a b c ct fd : Nat} {xs ys zs wi va tk li nu : Nat → Nat} {x : Nat} (E : E1 g F cc nL lvl) (hdg : decode cc pc = .ok (.iastore, 1)) (kk : Z1 g F Q nL (a, x, c, ct, xs, ys, zs, wi, va, tk, li, fd, nu) (pc + 1) lv stk) : Z1 g F Q nL (a, b, c, ct, xs, ys, zs, wi, va, tk, li, fd, nu) pc lv (.int (nI x) :: .int (nI 1) :: .ref (ga g 0) :: stk) :=
  z_astG E 1 (t0 := 0) rfl rfl (by decide) (by rw [upd_nI, hN_set1]; rfl) (by decide) hdg kk
theorem z1_h2 {a b c ct fd : Nat} {xs ys zs wi va tk li nu : Nat → Nat} (E : E1 g F cc nL lvl) (hdg : decode cc pc = .ok (.iaload, 1)) (kk : Z1 g F Q nL (a, b, c, ct, xs, ys, zs, wi, va, tk, li, fd, nu) (pc + 1) lv (.int (nI c) :: stk)) : Z1 g F Q nL (a, b, c, ct, xs, ys, zs, wi, va, tk, li, fd, nu) pc lv (.int (nI 2) :: .ref (ga g 0) :: stk) :=
  z_aldG E 1 (t0 := 0) rfl rfl (by decide) rfl (by decide) hdg kk
theorem z1_H2 {a b c ct fd : Nat} {xs ys zs wi va tk li nu : Nat → Nat} {t : List (Option Value)} (E : E1 g F cc nL lvl) (d0 : decode cc pc = .ok (.aload_n 0, 1)) (d1 : decode cc (pc + 1) = .ok (.getfield 7, 3)) (d2 : decode cc (pc + 4) = .ok (.iconst 2, 1)) (d3 : decode cc (pc + 5) = .ok (.iaload, 1)) (kk : Z1 g F Q nL (a, b, c, ct, xs, ys, zs, wi, va, tk, li, fd, nu) (pc + 6) (some (.ref (go g)) :: t) (.int (nI c) :: stk)) : Z1 g F Q nL (a, b, c, ct, xs, ys, zs, wi, va, tk, li, fd, nu) pc (some (.ref (go g)) :: t) stk :=
  z_ald0 E d0 (z1_get_heaps E d1 (z_ic2 E d2 (z1_h2 E d3 kk)))
theorem z1_hset2 {a b c ct fd : Nat} {xs ys zs wi va tk li nu : Nat → Nat} {x : Nat} (E : E1 g F cc nL lvl) (hdg : decode cc pc = .ok (.iastore, 1)) (kk : Z1 g F Q nL (a, b, x, ct, xs, ys, zs, wi, va, tk, li, fd, nu) (pc + 1) lv stk) : Z1 g F Q nL (a, b, c, ct, xs, ys, zs, wi, va, tk, li, fd, nu) pc lv (.int (nI x) :: .int (nI 2) :: .ref (ga g 0) :: stk) :=
  z_astG E 1 (t0 := 0) rfl rfl (by decide) (by rw [upd_nI, hN_set2]; rfl) (by decide) hdg kk
theorem z1_hi {a b c ct fd : Nat} {xs ys zs wi va tk li nu : Nat → Nat} {j : Nat} (E : E1 g F cc nL lvl) (hj : j < 3) (hdg : decode cc pc = .ok (.iaload, 1)) (kk : Z1 g F Q nL (a, b, c, ct, xs, ys, zs, wi, va, tk, li, fd, nu) (pc + 1) lv (.int (nI (hN a b c j)) :: stk)) : Z1 g F Q nL (a, b, c, ct, xs, ys, zs, wi, va, tk, li, fd, nu) pc lv (.int (nI j) :: .ref (ga g 0) :: stk) :=
  z_aldG E 1 (t0 := 0) rfl rfl (by decide) rfl hj hdg kk
theorem z1_ld_xs {a b c ct fd : Nat} {xs ys zs wi va tk li nu : Nat → Nat} {j : Nat} (E : E1 g F cc nL lvl) (hj : j < 800) (hdg : decode cc pc = .ok (.iaload, 1)) (kk : Z1 g F Q nL (a, b, c, ct, xs, ys, zs, wi, va, tk, li, fd, nu) (pc + 1) lv (.int (nI (xs j)) :: stk)) : Z1 g F Q nL (a, b, c, ct, xs, ys, zs, wi, va, tk, li, fd, nu) pc lv (.int (nI j) :: .ref (ga g 1) :: stk) :=
  z_aldG E 2 (t0 := 0) rfl rfl (by decide) rfl hj hdg kk
theorem z1_st_xs {a b c ct fd : Nat} {xs ys zs wi va tk li nu : Nat → Nat} {j x : Nat} (E : E1 g F cc nL lvl) (hj : j < 800) (hdg : decode cc pc = .ok (.iastore, 1)) (kk : Z1 g F Q nL (a, b, c, ct, upN xs j x, ys, zs, wi, va, tk, li, fd, nu) (pc + 1) lv stk) : Z1 g F Q nL (a, b, c, ct, xs, ys, zs, wi, va, tk, li, fd, nu) pc lv (.int (nI x) :: .int (nI j) :: .ref (ga g 1) :: stk) :=
  z_astG E 2 (t0 := 0) rfl rfl (by decide) (by rw [upd_nI]; rfl) hj hdg kk
theorem z1_ld_ys {a b c ct fd : Nat} {xs ys zs wi va tk li nu : Nat → Nat} {j : Nat} (E : E1 g F cc nL lvl) (hj : j < 800) (hdg : decode cc pc = .ok (.iaload, 1)) (kk : Z1 g F Q nL (a, b, c, ct, xs, ys, zs, wi, va, tk, li, fd, nu) (pc + 1) lv (.int (nI (ys j)) :: stk)) : Z1 g F Q nL (a, b, c, ct, xs, ys, zs, wi, va, tk, li, fd, nu) pc lv (.int (nI j) :: .ref (ga g 2) :: stk) :=
  z_aldG E 3 (t0 := 0) rfl rfl (by decide) rfl hj hdg kk
theorem z1_st_ys {a b c ct fd : Nat} {xs ys zs wi va tk li nu : Nat → Nat} {j x : Nat} (E : E1 g F cc nL lvl) (hj : j < 800) (hdg : decode cc pc = .ok (.iastore, 1)) (kk : Z1 g F Q nL (a, b, c, ct, xs, upN ys j x, zs, wi, va, tk, li, fd, nu) (pc + 1) lv stk) : Z1 g F Q nL (a, b, c, ct, xs, ys, zs, wi, va, tk, li, fd, nu) pc lv (.int (nI x) :: .int (nI j) :: .ref (ga g 2) :: stk) :=
  z_astG E 3 (t0 := 0) rfl rfl (by decide) (by rw [upd_nI]; rfl) hj hdg kk
theorem z1_ld_zs {a b c ct fd : Nat} {xs ys zs wi va tk li nu : Nat → Nat} {j : Nat} (E : E1 g F cc nL lvl) (hj : j < 800) (hdg : decode cc pc = .ok (.iaload, 1)) (kk : Z1 g F Q nL (a, b, c, ct, xs, ys, zs, wi, va, tk, li, fd, nu) (pc + 1) lv (.int (nI (zs j)) :: stk)) : Z1 g F Q nL (a, b, c, ct, xs, ys, zs, wi, va, tk, li, fd, nu) pc lv (.int (nI j) :: .ref (ga g 3) :: stk) :=
  z_aldG E 4 (t0 := 0) rfl rfl (by decide) rfl hj hdg kk
theorem z1_st_zs {a b c ct fd : Nat} {xs ys zs wi va tk li nu : Nat → Nat} {j x : Nat} (E : E1 g F cc nL lvl) (hj : j < 800) (hdg : decode cc pc = .ok (.iastore, 1)) (kk : Z1 g F Q nL (a, b, c, ct, xs, ys, upN zs j x, wi, va, tk, li, fd, nu) (pc + 1) lv stk) : Z1 g F Q nL (a, b, c, ct, xs, ys, zs, wi, va, tk, li, fd, nu) pc lv (.int (nI x) :: .int (nI j) :: .ref (ga g 3) :: stk) :=
  z_astG E 4 (t0 := 0) rfl rfl (by decide) (by rw [upd_nI]; rfl) hj hdg kk
theorem z1_ld_win {a b c ct fd : Nat} {xs ys zs wi va tk li nu : Nat → Nat} {j : Nat} (E : E1 g F cc nL lvl) (hj : j < 22816) (hdg : decode cc pc = .ok (.baload, 1)) (kk : Z1 g F Q nL (a, b, c, ct, xs, ys, zs, wi, va, tk, li, fd, nu) (pc + 1) lv (.int (nI (wi j)) :: stk)) : Z1 g F Q nL (a, b, c, ct, xs, ys, zs, wi, va, tk, li, fd, nu) pc lv (.int (nI j) :: .ref (ga g 4) :: stk) :=
  z_zldG E 5 (t0 := 1) rfl rfl (by decide) rfl hj hdg kk
theorem z1_st_win {a b c ct fd : Nat} {xs ys zs wi va tk li nu : Nat → Nat} {j x : Nat} (E : E1 g F cc nL lvl) (hv : x ≤ 1) (hj : j < 22816) (hdg : decode cc pc = .ok (.bastore, 1)) (kk : Z1 g F Q nL (a, b, c, ct, xs, ys, zs, upN wi j x, va, tk, li, fd, nu) (pc + 1) lv stk) : Z1 g F Q nL (a, b, c, ct, xs, ys, zs, wi, va, tk, li, fd, nu) pc lv (.int (nI x) :: .int (nI j) :: .ref (ga g 4) :: stk) :=
  z_zstG E 5 (t0 := 1) rfl rfl (by decide) (by rw [upd_nI]; rfl) hv hj hdg kk
theorem z1_ld_values {a b c ct fd : Nat} {xs ys zs wi va tk li nu : Nat → Nat} {j : Nat} (E : E1 g F cc nL lvl) (hj : j < 22816) (hdg : decode cc pc = .ok (.iaload, 1)) (kk : Z1 g F Q nL (a, b, c, ct, xs, ys, zs, wi, va, tk, li, fd, nu) (pc + 1) lv (.int (nI (va j)) :: stk)) : Z1 g F Q nL (a, b, c, ct, xs, ys, zs, wi, va, tk, li, fd, nu) pc lv (.int (nI j) :: .ref (ga g 5) :: stk) :=
  z_aldG E 6 (t0 := 0) rfl rfl (by decide) rfl hj hdg kk
theorem z1_st_values {a b c ct fd : Nat} {xs ys zs wi va tk li nu : Nat → Nat} {j x : Nat} (E : E1 g F cc nL lvl) (hj : j < 22816) (hdg : decode cc pc = .ok (.iastore, 1)) (kk : Z1 g F Q nL (a, b, c, ct, xs, ys, zs, wi, upN va j x, tk, li, fd, nu) (pc + 1) lv stk) : Z1 g F Q nL (a, b, c, ct, xs, ys, zs, wi, va, tk, li, fd, nu) pc lv (.int (nI x) :: .int (nI j) :: .ref (ga g 5) :: stk) :=
  z_astG E 6 (t0 := 0) rfl rfl (by decide) (by rw [upd_nI]; rfl) hj hdg kk
theorem z1_ld_taken {a b c ct fd : Nat} {xs ys zs wi va tk li nu : Nat → Nat} {j : Nat} (E : E1 g F cc nL lvl) (hj : j < 64) (hdg : decode cc pc = .ok (.baload, 1)) (kk : Z1 g F Q nL (a, b, c, ct, xs, ys, zs, wi, va, tk, li, fd, nu) (pc + 1) lv (.int (nI (tk j)) :: stk)) : Z1 g F Q nL (a, b, c, ct, xs, ys, zs, wi, va, tk, li, fd, nu) pc lv (.int (nI j) :: .ref (ga g 6) :: stk) :=
  z_zldG E 7 (t0 := 1) rfl rfl (by decide) rfl hj hdg kk
theorem z1_st_taken {a b c ct fd : Nat} {xs ys zs wi va tk li nu : Nat → Nat} {j x : Nat} (E : E1 g F cc nL lvl) (hv : x ≤ 1) (hj : j < 64) (hdg : decode cc pc = .ok (.bastore, 1)) (kk : Z1 g F Q nL (a, b, c, ct, xs, ys, zs, wi, va, upN tk j x, li, fd, nu) (pc + 1) lv stk) : Z1 g F Q nL (a, b, c, ct, xs, ys, zs, wi, va, tk, li, fd, nu) pc lv (.int (nI x) :: .int (nI j) :: .ref (ga g 6) :: stk) :=
  z_zstG E 7 (t0 := 1) rfl rfl (by decide) (by rw [upd_nI]; rfl) hv hj hdg kk
theorem z1_ld_limited {a b c ct fd : Nat} {xs ys zs wi va tk li nu : Nat → Nat} {j : Nat} (E : E1 g F cc nL lvl) (hj : j < 3721) (hdg : decode cc pc = .ok (.baload, 1)) (kk : Z1 g F Q nL (a, b, c, ct, xs, ys, zs, wi, va, tk, li, fd, nu) (pc + 1) lv (.int (nI (li j)) :: stk)) : Z1 g F Q nL (a, b, c, ct, xs, ys, zs, wi, va, tk, li, fd, nu) pc lv (.int (nI j) :: .ref (ga g 7) :: stk) :=
  z_zldG E 8 (t0 := 1) rfl rfl (by decide) rfl hj hdg kk
theorem z1_st_limited {a b c ct fd : Nat} {xs ys zs wi va tk li nu : Nat → Nat} {j x : Nat} (E : E1 g F cc nL lvl) (hv : x ≤ 1) (hj : j < 3721) (hdg : decode cc pc = .ok (.bastore, 1)) (kk : Z1 g F Q nL (a, b, c, ct, xs, ys, zs, wi, va, tk, upN li j x, fd, nu) (pc + 1) lv stk) : Z1 g F Q nL (a, b, c, ct, xs, ys, zs, wi, va, tk, li, fd, nu) pc lv (.int (nI x) :: .int (nI j) :: .ref (ga g 7) :: stk) :=
  z_zstG E 8 (t0 := 1) rfl rfl (by decide) (by rw [upd_nI]; rfl) hv hj hdg kk
theorem z1_ld_numbers {a b c ct fd : Nat} {xs ys zs wi va tk li nu : Nat → Nat} {j : Nat} (E : E1 g F cc nL lvl) (hj : j < 800) (hdg : decode cc pc = .ok (.iaload, 1)) (kk : Z1 g F Q nL (a, b, c, ct, xs, ys, zs, wi, va, tk, li, fd, nu) (pc + 1) lv (.int (nI (nu j)) :: stk)) : Z1 g F Q nL (a, b, c, ct, xs, ys, zs, wi, va, tk, li, fd, nu) pc lv (.int (nI j) :: .ref (ga g 8) :: stk) :=
  z_aldG E 9 (t0 := 0) rfl rfl (by decide) rfl hj hdg kk
theorem z1_st_numbers {a b c ct fd : Nat} {xs ys zs wi va tk li nu : Nat → Nat} {j x : Nat} (E : E1 g F cc nL lvl) (hj : j < 800) (hdg : decode cc pc = .ok (.iastore, 1)) (kk : Z1 g F Q nL (a, b, c, ct, xs, ys, zs, wi, va, tk, li, fd, upN nu j x) (pc + 1) lv stk) : Z1 g F Q nL (a, b, c, ct, xs, ys, zs, wi, va, tk, li, fd, nu) pc lv (.int (nI x) :: .int (nI j) :: .ref (ga g 8) :: stk) :=
  z_astG E 9 (t0 := 0) rfl rfl (by decide) (by rw [upd_nI]; rfl) hj hdg kk
theorem hdX0_heap : hdOk yX0_heap RX0 2 := by unfold hdOk; decide +kernel
theorem hdX0_badHeap : hdOk yX0_badHeap RX0 1 := by unfold hdOk; decide +kernel
theorem gqX0_badHeap : GoodIn lw_all (wsV RX0 20 RX0 yX0_badHeap (ws_ yX0_badHeap cX0_badHeap 2 (some .boolean))) := lw_V q62 q64 qs0 q37 q65
theorem z0_c_badHeap {st : S0} {v0 : Value} {rest : List Value} {j : Nat} {post : Int32 → S0 → Prop} (E : E0 g F cc nL lvl) (hdg : decode cc pc = .ok (.invokevirtual 20, 3)) (hj : j < lvl) (hrest : (rest.map fun v => v.category).sum ≤ 8) (hM : C0I g yX0_badHeap cX0_badHeap 2 .boolean j [v0] st post)
    (kk : ∀ (r : Int32) (u : S0), post r u → Z0 g F Q nL u (pc + 3) lv (.int r :: rest)) : Z0 g F Q nL st pc lv (v0 :: .ref (go g) :: rest) :=
  z_calli E hM gqX0_badHeap hdX0_badHeap rfl hj (by decide) rfl rfl hrest rfl hdg kk
theorem hdX0_has : hdOk yX0_has RX0 1 := by unfold hdOk; decide +kernel
theorem hdX0_won : hdOk yX0_won RX0 1 := by unfold hdOk; decide +kernel
theorem gqX0_won : GoodIn lw_all (wsV RX0 88 RX0 yX0_won (ws_ yX0_won cX0_won 3 (some .int))) := lw_V q166 q71 q72 q37 q73
theorem z0_c_won {st : S0} {v0 : Value} {rest : List Value} {j : Nat} {post : Int32 → S0 → Prop} (E : E0 g F cc nL lvl) (hdg : decode cc pc = .ok (.invokevirtual 88, 3)) (hj : j < lvl) (hrest : (rest.map fun v => v.category).sum ≤ 8) (hM : C0I g yX0_won cX0_won 3 .int j [v0] st post)
    (kk : ∀ (r : Int32) (u : S0), post r u → Z0 g F Q nL u (pc + 3) lv (.int r :: rest)) : Z0 g F Q nL st pc lv (v0 :: .ref (go g) :: rest) :=
  z_calli E hM gqX0_won hdX0_won rfl hj (by decide) rfl rfl hrest rfl hdg kk
theorem hdX0_badGame : hdOk yX0_badGame RX0 1 := by unfold hdOk; decide +kernel
theorem gqX0_badGame : GoodIn lw_all (wsV RX0 42 RX0 yX0_badGame (ws_ yX0_badGame cX0_badGame 2 (some .boolean))) := lw_V q74 q76 qs1 q37 q77
theorem z0_c_badGame {st : S0} {v0 : Value} {rest : List Value} {j : Nat} {post : Int32 → S0 → Prop} (E : E0 g F cc nL lvl) (hdg : decode cc pc = .ok (.invokevirtual 42, 3)) (hj : j < lvl) (hrest : (rest.map fun v => v.category).sum ≤ 8) (hM : C0I g yX0_badGame cX0_badGame 2 .boolean j [v0] st post)
    (kk : ∀ (r : Int32) (u : S0), post r u → Z0 g F Q nL u (pc + 3) lv (.int r :: rest)) : Z0 g F Q nL st pc lv (v0 :: .ref (go g) :: rest) :=
  z_calli E hM gqX0_badGame hdX0_badGame rfl hj (by decide) rfl rfl hrest rfl hdg kk
theorem hdX0_single : hdOk yX0_single RX0 0 := by unfold hdOk; decide +kernel
theorem gqX0_single : GoodIn lw_all (wsV RX0 45 RX0 yX0_single (ws_ yX0_single cX0_single 2 (some .int))) := lw_V q78 q80 qs2 q37 q81
theorem z0_c_single {st : S0} {rest : List Value} {j : Nat} {post : Int32 → S0 → Prop} (E : E0 g F cc nL lvl) (hdg : decode cc pc = .ok (.invokevirtual 45, 3)) (hj : j < lvl) (hrest : (rest.map fun v => v.category).sum ≤ 8) (hM : C0I g yX0_single cX0_single 2 .int j [] st post)
    (kk : ∀ (r : Int32) (u : S0), post r u → Z0 g F Q nL u (pc + 3) lv (.int r :: rest)) : Z0 g F Q nL st pc lv (.ref (go g) :: rest) :=
  z_calli E hM gqX0_single hdX0_single rfl hj (by decide) rfl rfl hrest rfl hdg kk
theorem hdX0_wonWith : hdOk yX0_wonWith RX0 2 := by unfold hdOk; decide +kernel
theorem gqX0_wonWith : GoodIn lw_all (wsV RX0 49 RX0 yX0_wonWith (ws_ yX0_wonWith cX0_wonWith 4 (some .boolean))) := lw_V q82 q84 qs3 q37 q85
theorem z0_c_wonWith {st : S0} {v0 v1 : Value} {rest : List Value} {j : Nat} {post : Int32 → S0 → Prop} (E : E0 g F cc nL lvl) (hdg : decode cc pc = .ok (.invokevirtual 49, 3)) (hj : j < lvl) (hrest : (rest.map fun v => v.category).sum ≤ 8) (hM : C0I g yX0_wonWith cX0_wonWith 4 .boolean j [v0, v1] st post)
    (kk : ∀ (r : Int32) (u : S0), post r u → Z0 g F Q nL u (pc + 3) lv (.int r :: rest)) : Z0 g F Q nL st pc lv (v1 :: v0 :: .ref (go g) :: rest) :=
  z_calli E hM gqX0_wonWith hdX0_wonWith rfl hj (by decide) rfl rfl hrest rfl hdg kk
theorem hdX0_leastPart : hdOk yX0_leastPart RX0 1 := by unfold hdOk; decide +kernel
theorem gqX0_leastPart : GoodIn lw_all (wsV RX0 39 RX0 yX0_leastPart (ws_ yX0_leastPart cX0_leastPart 7 (some .int))) := lw_V q86 q88 qs4 q37 q89
theorem z0_c_leastPart {st : S0} {v0 : Value} {rest : List Value} {j : Nat} {post : Int32 → S0 → Prop} (E : E0 g F cc nL lvl) (hdg : decode cc pc = .ok (.invokevirtual 39, 3)) (hj : j < lvl) (hrest : (rest.map fun v => v.category).sum ≤ 8) (hM : C0I g yX0_leastPart cX0_leastPart 7 .int j [v0] st post)
    (kk : ∀ (r : Int32) (u : S0), post r u → Z0 g F Q nL u (pc + 3) lv (.int r :: rest)) : Z0 g F Q nL st pc lv (v0 :: .ref (go g) :: rest) :=
  z_calli E hM gqX0_leastPart hdX0_leastPart rfl hj (by decide) rfl rfl hrest rfl hdg kk
theorem hdX0_isWon : hdOk yX0_isWon RX0 4 := by unfold hdOk; decide +kernel
theorem gqX0_isWon : GoodIn lw_all (wsV RX0 52 RX0 yX0_isWon (ws_ yX0_isWon cX0_isWon 5 (some .boolean))) := lw_V q90 q92 qs5 q37 q93
theorem z0_c_isWon {st : S0} {v0 v1 v2 v3 : Value} {rest : List Value} {j : Nat} {post : Int32 → S0 → Prop} (E : E0 g F cc nL lvl) (hdg : decode cc pc = .ok (.invokevirtual 52, 3)) (hj : j < lvl) (hrest : (rest.map fun v => v.category).sum ≤ 8) (hM : C0I g yX0_isWon cX0_isWon 5 .boolean j [v0, v1, v2, v3] st post)
    (kk : ∀ (r : Int32) (u : S0), post r u → Z0 g F Q nL u (pc + 3) lv (.int r :: rest)) : Z0 g F Q nL st pc lv (v3 :: v2 :: v1 :: v0 :: .ref (go g) :: rest) :=
  z_calli E hM gqX0_isWon hdX0_isWon rfl hj (by decide) rfl rfl hrest rfl hdg kk
theorem hdX0_wonLast : hdOk yX0_wonLast RX0 3 := by unfold hdOk; decide +kernel
theorem gqX0_wonLast : GoodIn lw_all (wsV RX0 28 RX0 yX0_wonLast (ws_ yX0_wonLast cX0_wonLast 5 (some .boolean))) := lw_V q94 q96 qs6 q37 q97
theorem z0_c_wonLast {st : S0} {v0 v1 v2 : Value} {rest : List Value} {j : Nat} {post : Int32 → S0 → Prop} (E : E0 g F cc nL lvl) (hdg : decode cc pc = .ok (.invokevirtual 28, 3)) (hj : j < lvl) (hrest : (rest.map fun v => v.category).sum ≤ 8) (hM : C0I g yX0_wonLast cX0_wonLast 5 .boolean j [v0, v1, v2] st post)
    (kk : ∀ (r : Int32) (u : S0), post r u → Z0 g F Q nL u (pc + 3) lv (.int r :: rest)) : Z0 g F Q nL st pc lv (v2 :: v1 :: v0 :: .ref (go g) :: rest) :=
  z_calli E hM gqX0_wonLast hdX0_wonLast rfl hj (by decide) rfl rfl hrest rfl hdg kk
theorem hdX0_wonGolden : hdOk yX0_wonGolden RX0 2 := by unfold hdOk; decide +kernel
theorem gqX0_wonGolden : GoodIn lw_all (wsV RX0 32 RX0 yX0_wonGolden (ws_ yX0_wonGolden cX0_wonGolden 5 (some .boolean))) := lw_V q98 q100 qs7 q37 q101
theorem z0_c_wonGolden {st : S0} {v0 v1 : Value} {rest : List Value} {j : Nat} {post : Int32 → S0 → Prop} (E : E0 g F cc nL lvl) (hdg : decode cc pc = .ok (.invokevirtual 32, 3)) (hj : j < lvl) (hrest : (rest.map fun v => v.category).sum ≤ 8) (hM : C0I g yX0_wonGolden cX0_wonGolden 5 .boolean j [v0, v1] st post)
    (kk : ∀ (r : Int32) (u : S0), post r u → Z0 g F Q nL u (pc + 3) lv (.int r :: rest)) : Z0 g F Q nL st pc lv (v1 :: v0 :: .ref (go g) :: rest) :=
  z_calli E hM gqX0_wonGolden hdX0_wonGolden rfl hj (by decide) rfl rfl hrest rfl hdg kk
theorem hdX0_rootOf : hdOk yX0_rootOf RX0 1 := by unfold hdOk; decide +kernel
theorem gqX0_rootOf : GoodIn lw_all (wsV RX0 24 RX0 yX0_rootOf (ws_ yX0_rootOf cX0_rootOf 3 (some .int))) := lw_V q102 q104 qs8 q37 q105
theorem z0_c_rootOf {st : S0} {v0 : Value} {rest : List Value} {j : Nat} {post : Int32 → S0 → Prop} (E : E0 g F cc nL lvl) (hdg : decode cc pc = .ok (.invokevirtual 24, 3)) (hj : j < lvl) (hrest : (rest.map fun v => v.category).sum ≤ 8) (hM : C0I g yX0_rootOf cX0_rootOf 3 .int j [v0] st post)
    (kk : ∀ (r : Int32) (u : S0), post r u → Z0 g F Q nL u (pc + 3) lv (.int r :: rest)) : Z0 g F Q nL st pc lv (v0 :: .ref (go g) :: rest) :=
  z_calli E hM gqX0_rootOf hdX0_rootOf rfl hj (by decide) rfl rfl hrest rfl hdg kk
theorem hdX0_wonRatio : hdOk yX0_wonRatio RX0 2 := by unfold hdOk; decide +kernel
theorem gqX0_wonRatio : GoodIn lw_all (wsV RX0 36 RX0 yX0_wonRatio (ws_ yX0_wonRatio cX0_wonRatio 5 (some .boolean))) := lw_V q106 q108 qs9 q37 q109
theorem z0_c_wonRatio {st : S0} {v0 v1 : Value} {rest : List Value} {j : Nat} {post : Int32 → S0 → Prop} (E : E0 g F cc nL lvl) (hdg : decode cc pc = .ok (.invokevirtual 36, 3)) (hj : j < lvl) (hrest : (rest.map fun v => v.category).sum ≤ 8) (hM : C0I g yX0_wonRatio cX0_wonRatio 5 .boolean j [v0, v1] st post)
    (kk : ∀ (r : Int32) (u : S0), post r u → Z0 g F Q nL u (pc + 3) lv (.int r :: rest)) : Z0 g F Q nL st pc lv (v1 :: v0 :: .ref (go g) :: rest) :=
  z_calli E hM gqX0_wonRatio hdX0_wonRatio rfl hj (by decide) rfl rfl hrest rfl hdg kk
theorem hdX0_moves : hdOk yX0_moves RX0 1 := by unfold hdOk; decide +kernel
theorem hdX0_findMoves : hdOk yX0_findMoves RX0 2 := by unfold hdOk; decide +kernel
theorem gqX0_findMoves : GoodIn lw_all (wsV RX0 85 RX0 yX0_findMoves (ws_ yX0_findMoves cX0_findMoves 3 none)) := lw_V q114 q116 qs10 q37 q117
theorem z0_c_findMoves {st : S0} {v0 v1 : Value} {rest : List Value} {j : Nat} {post : S0 → Prop} (E : E0 g F cc nL lvl) (hdg : decode cc pc = .ok (.invokevirtual 85, 3)) (hj : j < lvl) (hrest : (rest.map fun v => v.category).sum ≤ 8) (hM : C0V g yX0_findMoves cX0_findMoves 3 j [v0, v1] st post)
    (kk : ∀ (u : S0), post u → Z0 g F Q nL u (pc + 3) lv rest) : Z0 g F Q nL st pc lv (v1 :: v0 :: .ref (go g) :: rest) :=
  z_callv E hM gqX0_findMoves hdX0_findMoves rfl hj (by decide) rfl rfl hrest rfl hdg kk
theorem hdX0_downStairs : hdOk yX0_downStairs RX0 1 := by unfold hdOk; decide +kernel
theorem gqX0_downStairs : GoodIn lw_all (wsV RX0 64 RX0 yX0_downStairs (ws_ yX0_downStairs cX0_downStairs 3 none)) := lw_V q118 q120 qs11 q37 q121
theorem z0_c_downStairs {st : S0} {v0 : Value} {rest : List Value} {j : Nat} {post : S0 → Prop} (E : E0 g F cc nL lvl) (hdg : decode cc pc = .ok (.invokevirtual 64, 3)) (hj : j < lvl) (hrest : (rest.map fun v => v.category).sum ≤ 8) (hM : C0V g yX0_downStairs cX0_downStairs 3 j [v0] st post)
    (kk : ∀ (u : S0), post u → Z0 g F Q nL u (pc + 3) lv rest) : Z0 g F Q nL st pc lv (v0 :: .ref (go g) :: rest) :=
  z_callv E hM gqX0_downStairs hdX0_downStairs rfl hj (by decide) rfl rfl hrest rfl hdg kk
theorem hdX0_consider : hdOk yX0_consider RX0 5 := by unfold hdOk; decide +kernel
theorem gqX0_consider : GoodIn lw_all (wsV RX0 60 RX0 yX0_consider (ws_ yX0_consider cX0_consider 6 none)) := lw_V q122 q124 qs12 q37 q125
theorem z0_c_consider {st : S0} {v0 v1 v2 v3 v4 : Value} {rest : List Value} {j : Nat} {post : S0 → Prop} (E : E0 g F cc nL lvl) (hdg : decode cc pc = .ok (.invokevirtual 60, 3)) (hj : j < lvl) (hrest : (rest.map fun v => v.category).sum ≤ 8) (hM : C0V g yX0_consider cX0_consider 6 j [v0, v1, v2, v3, v4] st post)
    (kk : ∀ (u : S0), post u → Z0 g F Q nL u (pc + 3) lv rest) : Z0 g F Q nL st pc lv (v4 :: v3 :: v2 :: v1 :: v0 :: .ref (go g) :: rest) :=
  z_callv E hM gqX0_consider hdX0_consider rfl hj (by decide) rfl rfl hrest rfl hdg kk
theorem hdX0_keep : hdOk yX0_keep RX0 1 := by unfold hdOk; decide +kernel
theorem gqX0_keep : GoodIn lw_all (wsV RX0 56 RX0 yX0_keep (ws_ yX0_keep cX0_keep 4 none)) := lw_V q126 q128 qs13 q37 q129
theorem z0_c_keep {st : S0} {v0 : Value} {rest : List Value} {j : Nat} {post : S0 → Prop} (E : E0 g F cc nL lvl) (hdg : decode cc pc = .ok (.invokevirtual 56, 3)) (hj : j < lvl) (hrest : (rest.map fun v => v.category).sum ≤ 8) (hM : C0V g yX0_keep cX0_keep 4 j [v0] st post)
    (kk : ∀ (u : S0), post u → Z0 g F Q nL u (pc + 3) lv rest) : Z0 g F Q nL st pc lv (v0 :: .ref (go g) :: rest) :=
  z_callv E hM gqX0_keep hdX0_keep rfl hj (by decide) rfl rfl hrest rfl hdg kk
theorem hdX0_multiples : hdOk yX0_multiples RX0 1 := by unfold hdOk; decide +kernel
theorem gqX0_multiples : GoodIn lw_all (wsV RX0 68 RX0 yX0_multiples (ws_ yX0_multiples cX0_multiples 5 none)) := lw_V q130 q132 qs14 q37 q133
theorem z0_c_multiples {st : S0} {v0 : Value} {rest : List Value} {j : Nat} {post : S0 → Prop} (E : E0 g F cc nL lvl) (hdg : decode cc pc = .ok (.invokevirtual 68, 3)) (hj : j < lvl) (hrest : (rest.map fun v => v.category).sum ≤ 8) (hM : C0V g yX0_multiples cX0_multiples 5 j [v0] st post)
    (kk : ∀ (u : S0), post u → Z0 g F Q nL u (pc + 3) lv rest) : Z0 g F Q nL st pc lv (v0 :: .ref (go g) :: rest) :=
  z_callv E hM gqX0_multiples hdX0_multiples rfl hj (by decide) rfl rfl hrest rfl hdg kk
theorem hdX0_fromSingle : hdOk yX0_fromSingle RX0 1 := by unfold hdOk; decide +kernel
theorem gqX0_fromSingle : GoodIn lw_all (wsV RX0 71 RX0 yX0_fromSingle (ws_ yX0_fromSingle cX0_fromSingle 5 none)) := lw_V q134 q136 qs15 q37 q137
theorem z0_c_fromSingle {st : S0} {v0 : Value} {rest : List Value} {j : Nat} {post : S0 → Prop} (E : E0 g F cc nL lvl) (hdg : decode cc pc = .ok (.invokevirtual 71, 3)) (hj : j < lvl) (hrest : (rest.map fun v => v.category).sum ≤ 8) (hM : C0V g yX0_fromSingle cX0_fromSingle 5 j [v0] st post)
    (kk : ∀ (u : S0), post u → Z0 g F Q nL u (pc + 3) lv rest) : Z0 g F Q nL st pc lv (v0 :: .ref (go g) :: rest) :=
  z_callv E hM gqX0_fromSingle hdX0_fromSingle rfl hj (by decide) rfl rfl hrest rfl hdg kk
theorem hdX0_fromOne : hdOk yX0_fromOne RX0 3 := by unfold hdOk; decide +kernel
theorem gqX0_fromOne : GoodIn lw_all (wsV RX0 74 RX0 yX0_fromOne (ws_ yX0_fromOne cX0_fromOne 8 none)) := lw_V q138 q140 qs16 q37 q141
theorem z0_c_fromOne {st : S0} {v0 v1 v2 : Value} {rest : List Value} {j : Nat} {post : S0 → Prop} (E : E0 g F cc nL lvl) (hdg : decode cc pc = .ok (.invokevirtual 74, 3)) (hj : j < lvl) (hrest : (rest.map fun v => v.category).sum ≤ 8) (hM : C0V g yX0_fromOne cX0_fromOne 8 j [v0, v1, v2] st post)
    (kk : ∀ (u : S0), post u → Z0 g F Q nL u (pc + 3) lv rest) : Z0 g F Q nL st pc lv (v2 :: v1 :: v0 :: .ref (go g) :: rest) :=
  z_callv E hM gqX0_fromOne hdX0_fromOne rfl hj (by decide) rfl rfl hrest rfl hdg kk
theorem hdX0_fromTwo : hdOk yX0_fromTwo RX0 2 := by unfold hdOk; decide +kernel
theorem gqX0_fromTwo : GoodIn lw_all (wsV RX0 78 RX0 yX0_fromTwo (ws_ yX0_fromTwo cX0_fromTwo 11 none)) := lw_V q142 q144 qs17 q37 q145
theorem z0_c_fromTwo {st : S0} {v0 v1 : Value} {rest : List Value} {j : Nat} {post : S0 → Prop} (E : E0 g F cc nL lvl) (hdg : decode cc pc = .ok (.invokevirtual 78, 3)) (hj : j < lvl) (hrest : (rest.map fun v => v.category).sum ≤ 8) (hM : C0V g yX0_fromTwo cX0_fromTwo 11 j [v0, v1] st post)
    (kk : ∀ (u : S0), post u → Z0 g F Q nL u (pc + 3) lv rest) : Z0 g F Q nL st pc lv (v1 :: v0 :: .ref (go g) :: rest) :=
  z_callv E hM gqX0_fromTwo hdX0_fromTwo rfl hj (by decide) rfl rfl hrest rfl hdg kk
theorem hdX0_equallyMany : hdOk yX0_equallyMany RX0 1 := by unfold hdOk; decide +kernel
theorem gqX0_equallyMany : GoodIn lw_all (wsV RX0 82 RX0 yX0_equallyMany (ws_ yX0_equallyMany cX0_equallyMany 3 none)) := lw_V q146 q148 qs18 q37 q149
theorem z0_c_equallyMany {st : S0} {v0 : Value} {rest : List Value} {j : Nat} {post : S0 → Prop} (E : E0 g F cc nL lvl) (hdg : decode cc pc = .ok (.invokevirtual 82, 3)) (hj : j < lvl) (hrest : (rest.map fun v => v.category).sum ≤ 8) (hM : C0V g yX0_equallyMany cX0_equallyMany 3 j [v0] st post)
    (kk : ∀ (u : S0), post u → Z0 g F Q nL u (pc + 3) lv rest) : Z0 g F Q nL st pc lv (v0 :: .ref (go g) :: rest) :=
  z_callv E hM gqX0_equallyMany hdX0_equallyMany rfl hj (by decide) rfl rfl hrest rfl hdg kk
theorem hdX0_winning : hdOk yX0_winning RX0 1 := by unfold hdOk; decide +kernel
theorem hdX0_winningMove : hdOk yX0_winningMove RX0 2 := by unfold hdOk; decide +kernel
theorem hdX0_value : hdOk yX0_value RX0 1 := by unfold hdOk; decide +kernel
theorem hdX0_play : hdOk yX0_play RX0 2 := by unfold hdOk; decide +kernel
theorem hdX1_heap : hdOk yX1_heap RX1 2 := by unfold hdOk; decide +kernel
theorem hdX1_has : hdOk yX1_has RX1 1 := by unfold hdOk; decide +kernel
theorem hdX1_won : hdOk yX1_won RX1 1 := by unfold hdOk; decide +kernel
theorem gqX1_won : GoodIn lw_all (wsV RX1 104 RX1 yX1_won (ws_ yX1_won cX1_won 3 (some .int))) := lw_V q308 q217 q218 q38 q219
theorem z1_c_won {st : S1} {v0 : Value} {rest : List Value} {j : Nat} {post : Int32 → S1 → Prop} (E : E1 g F cc nL lvl) (hdg : decode cc pc = .ok (.invokevirtual 104, 3)) (hj : j < lvl) (hrest : (rest.map fun v => v.category).sum ≤ 8) (hM : C1I g yX1_won cX1_won 3 .int j [v0] st post)
    (kk : ∀ (r : Int32) (u : S1), post r u → Z1 g F Q nL u (pc + 3) lv (.int r :: rest)) : Z1 g F Q nL st pc lv (v0 :: .ref (go g) :: rest) :=
  z_calli E hM gqX1_won hdX1_won rfl hj (by decide) rfl rfl hrest rfl hdg kk
theorem hdX1_noGame : hdOk yX1_noGame RX1 1 := by unfold hdOk; decide +kernel
theorem gqX1_noGame : GoodIn lw_all (wsV RX1 97 RX1 yX1_noGame (ws_ yX1_noGame cX1_noGame 2 (some .boolean))) := lw_V q220 q222 qs19 q38 q223
theorem z1_c_noGame {st : S1} {v0 : Value} {rest : List Value} {j : Nat} {post : Int32 → S1 → Prop} (E : E1 g F cc nL lvl) (hdg : decode cc pc = .ok (.invokevirtual 97, 3)) (hj : j < lvl) (hrest : (rest.map fun v => v.category).sum ≤ 8) (hM : C1I g yX1_noGame cX1_noGame 2 .boolean j [v0] st post)
    (kk : ∀ (r : Int32) (u : S1), post r u → Z1 g F Q nL u (pc + 3) lv (.int r :: rest)) : Z1 g F Q nL st pc lv (v0 :: .ref (go g) :: rest) :=
  z_calli E hM gqX1_noGame hdX1_noGame rfl hj (by decide) rfl rfl hrest rfl hdg kk
theorem hdX1_search : hdOk yX1_search RX1 1 := by unfold hdOk; decide +kernel
theorem gqX1_search : GoodIn lw_all (wsV RX1 101 RX1 yX1_search (ws_ yX1_search cX1_search 5 (some .int))) := lw_V q224 q226 qs20 q38 q227
theorem z1_c_search {st : S1} {v0 : Value} {rest : List Value} {j : Nat} {post : Int32 → S1 → Prop} (E : E1 g F cc nL lvl) (hdg : decode cc pc = .ok (.invokevirtual 101, 3)) (hj : j < lvl) (hrest : (rest.map fun v => v.category).sum ≤ 8) (hM : C1I g yX1_search cX1_search 5 .int j [v0] st post)
    (kk : ∀ (r : Int32) (u : S1), post r u → Z1 g F Q nL u (pc + 3) lv (.int r :: rest)) : Z1 g F Q nL st pc lv (v0 :: .ref (go g) :: rest) :=
  z_calli E hM gqX1_search hdX1_search rfl hj (by decide) rfl rfl hrest rfl hdg kk
theorem hdX1_fillLimited : hdOk yX1_fillLimited RX1 0 := by unfold hdOk; decide +kernel
theorem gqX1_fillLimited : GoodIn lw_all (wsV RX1 83 RX1 yX1_fillLimited (ws_ yX1_fillLimited cX1_fillLimited 5 none)) := lw_V q228 q230 qs21 q38 q231
theorem z1_c_fillLimited {st : S1} {rest : List Value} {j : Nat} {post : S1 → Prop} (E : E1 g F cc nL lvl) (hdg : decode cc pc = .ok (.invokevirtual 83, 3)) (hj : j < lvl) (hrest : (rest.map fun v => v.category).sum ≤ 8) (hM : C1V g yX1_fillLimited cX1_fillLimited 5 j [] st post)
    (kk : ∀ (u : S1), post u → Z1 g F Q nL u (pc + 3) lv rest) : Z1 g F Q nL st pc lv (.ref (go g) :: rest) :=
  z_callv E hM gqX1_fillLimited hdX1_fillLimited rfl hj (by decide) rfl rfl hrest rfl hdg kk
theorem hdX1_atMost : hdOk yX1_atMost RX1 1 := by unfold hdOk; decide +kernel
theorem gqX1_atMost : GoodIn lw_all (wsV RX1 76 RX1 yX1_atMost (ws_ yX1_atMost cX1_atMost 2 (some .int))) := lw_V q232 q234 qs22 q38 q235
theorem z1_c_atMost {st : S1} {v0 : Value} {rest : List Value} {j : Nat} {post : Int32 → S1 → Prop} (E : E1 g F cc nL lvl) (hdg : decode cc pc = .ok (.invokevirtual 76, 3)) (hj : j < lvl) (hrest : (rest.map fun v => v.category).sum ≤ 8) (hM : C1I g yX1_atMost cX1_atMost 2 .int j [v0] st post)
    (kk : ∀ (r : Int32) (u : S1), post r u → Z1 g F Q nL u (pc + 3) lv (.int r :: rest)) : Z1 g F Q nL st pc lv (v0 :: .ref (go g) :: rest) :=
  z_calli E hM gqX1_atMost hdX1_atMost rfl hj (by decide) rfl rfl hrest rfl hdg kk
theorem hdX1_counters : hdOk yX1_counters RX1 0 := by unfold hdOk; decide +kernel
theorem gqX1_counters : GoodIn lw_all (wsV RX1 86 RX1 yX1_counters (ws_ yX1_counters cX1_counters 2 (some .int))) := lw_V q236 q238 qs23 q38 q239
theorem z1_c_counters {st : S1} {rest : List Value} {j : Nat} {post : Int32 → S1 → Prop} (E : E1 g F cc nL lvl) (hdg : decode cc pc = .ok (.invokevirtual 86, 3)) (hj : j < lvl) (hrest : (rest.map fun v => v.category).sum ≤ 8) (hM : C1I g yX1_counters cX1_counters 2 .int j [] st post)
    (kk : ∀ (r : Int32) (u : S1), post r u → Z1 g F Q nL u (pc + 3) lv (.int r :: rest)) : Z1 g F Q nL st pc lv (.ref (go g) :: rest) :=
  z_calli E hM gqX1_counters hdX1_counters rfl hj (by decide) rfl rfl hrest rfl hdg kk
theorem hdX1_note : hdOk yX1_note RX1 1 := by unfold hdOk; decide +kernel
theorem gqX1_note : GoodIn lw_all (wsV RX1 90 RX1 yX1_note (ws_ yX1_note cX1_note 3 none)) := lw_V q240 q242 qs24 q38 q243
theorem z1_c_note {st : S1} {v0 : Value} {rest : List Value} {j : Nat} {post : S1 → Prop} (E : E1 g F cc nL lvl) (hdg : decode cc pc = .ok (.invokevirtual 90, 3)) (hj : j < lvl) (hrest : (rest.map fun v => v.category).sum ≤ 8) (hM : C1V g yX1_note cX1_note 3 j [v0] st post)
    (kk : ∀ (u : S1), post u → Z1 g F Q nL u (pc + 3) lv rest) : Z1 g F Q nL st pc lv (v0 :: .ref (go g) :: rest) :=
  z_callv E hM gqX1_note hdX1_note rfl hj (by decide) rfl rfl hrest rfl hdg kk
theorem hdX1_fill : hdOk yX1_fill RX1 1 := by unfold hdOk; decide +kernel
theorem gqX1_fill : GoodIn lw_all (wsV RX1 94 RX1 yX1_fill (ws_ yX1_fill cX1_fill 7 none)) := lw_V q244 q246 qs25 q38 q247
theorem z1_c_fill {st : S1} {v0 : Value} {rest : List Value} {j : Nat} {post : S1 → Prop} (E : E1 g F cc nL lvl) (hdg : decode cc pc = .ok (.invokevirtual 94, 3)) (hj : j < lvl) (hrest : (rest.map fun v => v.category).sum ≤ 8) (hM : C1V g yX1_fill cX1_fill 7 j [v0] st post)
    (kk : ∀ (u : S1), post u → Z1 g F Q nL u (pc + 3) lv rest) : Z1 g F Q nL st pc lv (v0 :: .ref (go g) :: rest) :=
  z_callv E hM gqX1_fill hdX1_fill rfl hj (by decide) rfl rfl hrest rfl hdg kk
theorem hdX1_judge : hdOk yX1_judge RX1 4 := by unfold hdOk; decide +kernel
theorem gqX1_judge : GoodIn lw_all (wsV RX1 73 RX1 yX1_judge (ws_ yX1_judge cX1_judge 9 none)) := lw_V q248 q250 qs26 q38 q251
theorem z1_c_judge {st : S1} {v0 v1 v2 v3 : Value} {rest : List Value} {j : Nat} {post : S1 → Prop} (E : E1 g F cc nL lvl) (hdg : decode cc pc = .ok (.invokevirtual 73, 3)) (hj : j < lvl) (hrest : (rest.map fun v => v.category).sum ≤ 8) (hM : C1V g yX1_judge cX1_judge 9 j [v0, v1, v2, v3] st post)
    (kk : ∀ (u : S1), post u → Z1 g F Q nL u (pc + 3) lv rest) : Z1 g F Q nL st pc lv (v3 :: v2 :: v1 :: v0 :: .ref (go g) :: rest) :=
  z_callv E hM gqX1_judge hdX1_judge rfl hj (by decide) rfl rfl hrest rfl hdg kk
theorem hdX1_key : hdOk yX1_key RX1 3 := by unfold hdOk; decide +kernel
theorem gqX1_key : GoodIn lw_all (wsV RX1 59 RX1 yX1_key (ws_ yX1_key cX1_key 4 (some .int))) := lw_V q252 q254 qs27 q38 q255
theorem z1_c_key {st : S1} {v0 v1 v2 : Value} {rest : List Value} {j : Nat} {post : Int32 → S1 → Prop} (E : E1 g F cc nL lvl) (hdg : decode cc pc = .ok (.invokevirtual 59, 3)) (hj : j < lvl) (hrest : (rest.map fun v => v.category).sum ≤ 8) (hM : C1I g yX1_key cX1_key 4 .int j [v0, v1, v2] st post)
    (kk : ∀ (r : Int32) (u : S1), post r u → Z1 g F Q nL u (pc + 3) lv (.int r :: rest)) : Z1 g F Q nL st pc lv (v2 :: v1 :: v0 :: .ref (go g) :: rest) :=
  z_calli E hM gqX1_key hdX1_key rfl hj (by decide) rfl rfl hrest rfl hdg kk
theorem hdX1_findsLost : hdOk yX1_findsLost RX1 3 := by unfold hdOk; decide +kernel
theorem gqX1_findsLost : GoodIn lw_all (wsV RX1 67 RX1 yX1_findsLost (ws_ yX1_findsLost cX1_findsLost 6 (some .boolean))) := lw_V q256 q258 qs28 q38 q259
theorem z1_c_findsLost {st : S1} {v0 v1 v2 : Value} {rest : List Value} {j : Nat} {post : Int32 → S1 → Prop} (E : E1 g F cc nL lvl) (hdg : decode cc pc = .ok (.invokevirtual 67, 3)) (hj : j < lvl) (hrest : (rest.map fun v => v.category).sum ≤ 8) (hM : C1I g yX1_findsLost cX1_findsLost 6 .boolean j [v0, v1, v2] st post)
    (kk : ∀ (r : Int32) (u : S1), post r u → Z1 g F Q nL u (pc + 3) lv (.int r :: rest)) : Z1 g F Q nL st pc lv (v2 :: v1 :: v0 :: .ref (go g) :: rest) :=
  z_calli E hM gqX1_findsLost hdX1_findsLost rfl hj (by decide) rfl rfl hrest rfl hdg kk
theorem hdX1_isLost : hdOk yX1_isLost RX1 3 := by unfold hdOk; decide +kernel
theorem gqX1_isLost : GoodIn lw_all (wsV RX1 63 RX1 yX1_isLost (ws_ yX1_isLost cX1_isLost 4 (some .boolean))) := lw_V q260 q262 qs29 q38 q263
theorem z1_c_isLost {st : S1} {v0 v1 v2 : Value} {rest : List Value} {j : Nat} {post : Int32 → S1 → Prop} (E : E1 g F cc nL lvl) (hdg : decode cc pc = .ok (.invokevirtual 63, 3)) (hj : j < lvl) (hrest : (rest.map fun v => v.category).sum ≤ 8) (hM : C1I g yX1_isLost cX1_isLost 4 .boolean j [v0, v1, v2] st post)
    (kk : ∀ (r : Int32) (u : S1), post r u → Z1 g F Q nL u (pc + 3) lv (.int r :: rest)) : Z1 g F Q nL st pc lv (v2 :: v1 :: v0 :: .ref (go g) :: rest) :=
  z_calli E hM gqX1_isLost hdX1_isLost rfl hj (by decide) rfl rfl hrest rfl hdg kk
theorem hdX1_list : hdOk yX1_list RX1 4 := by unfold hdOk; decide +kernel
theorem gqX1_list : GoodIn lw_all (wsV RX1 70 RX1 yX1_list (ws_ yX1_list cX1_list 5 none)) := lw_V q264 q266 qs30 q38 q267
theorem z1_c_list {st : S1} {v0 v1 v2 v3 : Value} {rest : List Value} {j : Nat} {post : S1 → Prop} (E : E1 g F cc nL lvl) (hdg : decode cc pc = .ok (.invokevirtual 70, 3)) (hj : j < lvl) (hrest : (rest.map fun v => v.category).sum ≤ 8) (hM : C1V g yX1_list cX1_list 5 j [v0, v1, v2, v3] st post)
    (kk : ∀ (u : S1), post u → Z1 g F Q nL u (pc + 3) lv rest) : Z1 g F Q nL st pc lv (v3 :: v2 :: v1 :: v0 :: .ref (go g) :: rest) :=
  z_callv E hM gqX1_list hdX1_list rfl hj (by decide) rfl rfl hrest rfl hdg kk
theorem hdX1_listPushes : hdOk yX1_listPushes RX1 3 := by unfold hdOk; decide +kernel
theorem gqX1_listPushes : GoodIn lw_all (wsV RX1 42 RX1 yX1_listPushes (ws_ yX1_listPushes cX1_listPushes 5 none)) := lw_V q268 q270 qs31 q38 q271
theorem z1_c_listPushes {st : S1} {v0 v1 v2 : Value} {rest : List Value} {j : Nat} {post : S1 → Prop} (E : E1 g F cc nL lvl) (hdg : decode cc pc = .ok (.invokevirtual 42, 3)) (hj : j < lvl) (hrest : (rest.map fun v => v.category).sum ≤ 8) (hM : C1V g yX1_listPushes cX1_listPushes 5 j [v0, v1, v2] st post)
    (kk : ∀ (u : S1), post u → Z1 g F Q nL u (pc + 3) lv rest) : Z1 g F Q nL st pc lv (v2 :: v1 :: v0 :: .ref (go g) :: rest) :=
  z_callv E hM gqX1_listPushes hdX1_listPushes rfl hj (by decide) rfl rfl hrest rfl hdg kk
theorem hdX1_leave : hdOk yX1_leave RX1 3 := by unfold hdOk; decide +kernel
theorem gqX1_leave : GoodIn lw_all (wsV RX1 56 RX1 yX1_leave (ws_ yX1_leave cX1_leave 4 none)) := lw_V q272 q274 qs32 q38 q275
theorem z1_c_leave {st : S1} {v0 v1 v2 : Value} {rest : List Value} {j : Nat} {post : S1 → Prop} (E : E1 g F cc nL lvl) (hdg : decode cc pc = .ok (.invokevirtual 56, 3)) (hj : j < lvl) (hrest : (rest.map fun v => v.category).sum ≤ 8) (hM : C1V g yX1_leave cX1_leave 4 j [v0, v1, v2] st post)
    (kk : ∀ (u : S1), post u → Z1 g F Q nL u (pc + 3) lv rest) : Z1 g F Q nL st pc lv (v2 :: v1 :: v0 :: .ref (go g) :: rest) :=
  z_callv E hM gqX1_leave hdX1_leave rfl hj (by decide) rfl rfl hrest rfl hdg kk
theorem hdX1_listEqual : hdOk yX1_listEqual RX1 3 := by unfold hdOk; decide +kernel
theorem gqX1_listEqual : GoodIn lw_all (wsV RX1 46 RX1 yX1_listEqual (ws_ yX1_listEqual cX1_listEqual 5 none)) := lw_V q276 q278 qs33 q38 q279
theorem z1_c_listEqual {st : S1} {v0 v1 v2 : Value} {rest : List Value} {j : Nat} {post : S1 → Prop} (E : E1 g F cc nL lvl) (hdg : decode cc pc = .ok (.invokevirtual 46, 3)) (hj : j < lvl) (hrest : (rest.map fun v => v.category).sum ≤ 8) (hM : C1V g yX1_listEqual cX1_listEqual 5 j [v0, v1, v2] st post)
    (kk : ∀ (u : S1), post u → Z1 g F Q nL u (pc + 3) lv rest) : Z1 g F Q nL st pc lv (v2 :: v1 :: v0 :: .ref (go g) :: rest) :=
  z_callv E hM gqX1_listEqual hdX1_listEqual rfl hj (by decide) rfl rfl hrest rfl hdg kk
theorem hdX1_listMultiples : hdOk yX1_listMultiples RX1 3 := by unfold hdOk; decide +kernel
theorem gqX1_listMultiples : GoodIn lw_all (wsV RX1 49 RX1 yX1_listMultiples (ws_ yX1_listMultiples cX1_listMultiples 7 none)) := lw_V q280 q282 qs34 q38 q283
theorem z1_c_listMultiples {st : S1} {v0 v1 v2 : Value} {rest : List Value} {j : Nat} {post : S1 → Prop} (E : E1 g F cc nL lvl) (hdg : decode cc pc = .ok (.invokevirtual 49, 3)) (hj : j < lvl) (hrest : (rest.map fun v => v.category).sum ≤ 8) (hM : C1V g yX1_listMultiples cX1_listMultiples 7 j [v0, v1, v2] st post)
    (kk : ∀ (u : S1), post u → Z1 g F Q nL u (pc + 3) lv rest) : Z1 g F Q nL st pc lv (v2 :: v1 :: v0 :: .ref (go g) :: rest) :=
  z_callv E hM gqX1_listMultiples hdX1_listMultiples rfl hj (by decide) rfl rfl hrest rfl hdg kk
theorem hdX1_listSingles : hdOk yX1_listSingles RX1 4 := by unfold hdOk; decide +kernel
theorem gqX1_listSingles : GoodIn lw_all (wsV RX1 52 RX1 yX1_listSingles (ws_ yX1_listSingles cX1_listSingles 8 none)) := lw_V q284 q286 qs35 q38 q287
theorem z1_c_listSingles {st : S1} {v0 v1 v2 v3 : Value} {rest : List Value} {j : Nat} {post : S1 → Prop} (E : E1 g F cc nL lvl) (hdg : decode cc pc = .ok (.invokevirtual 52, 3)) (hj : j < lvl) (hrest : (rest.map fun v => v.category).sum ≤ 8) (hM : C1V g yX1_listSingles cX1_listSingles 8 j [v0, v1, v2, v3] st post)
    (kk : ∀ (u : S1), post u → Z1 g F Q nL u (pc + 3) lv rest) : Z1 g F Q nL st pc lv (v3 :: v2 :: v1 :: v0 :: .ref (go g) :: rest) :=
  z_callv E hM gqX1_listSingles hdX1_listSingles rfl hj (by decide) rfl rfl hrest rfl hdg kk
theorem hdX1_moves : hdOk yX1_moves RX1 1 := by unfold hdOk; decide +kernel
theorem hdX1_winning : hdOk yX1_winning RX1 1 := by unfold hdOk; decide +kernel
theorem hdX1_winningMove : hdOk yX1_winningMove RX1 2 := by unfold hdOk; decide +kernel
theorem hdX1_value : hdOk yX1_value RX1 1 := by unfold hdOk; decide +kernel
theorem hdX1_play : hdOk yX1_play RX1 2 := by unfold hdOk; decide +kernel
end WROWS
end
section
set_option maxRecDepth 100000
/-! PURE LAYER: numbers and sets, no program in sight -/
def bn (b : Bool) : Nat := cond b 1 0
theorem bn_le (b : Bool) : bn b ≤ 1 := by cases b <;> decide
theorem bn_t {b : Bool} (h : b = true) : bn b = 1 := by rw [h]; rfl
theorem bn_f {b : Bool} (h : b = false) : bn b = 0 := by rw [h]; rfl
theorem bn_0 {b : Bool} (h : bn b = 0) : b = false := by cases b with
  | true => exact absurd h (by decide)
  | false => rfl
theorem bn_1 {b : Bool} (h : bn b ≠ 0) : b = true := by cases b with
  | true => rfl
  | false => exact absurd rfl h
theorem pT {b : Bool} (h : b = true) : nI 1 = nI (bn b) := by rw [h]; rfl
theorem pF {b : Bool} (h : b = false) : nI 0 = nI (bn b) := by rw [h]; rfl
/-- out of 0 .. m -/
def Bad (m : Nat) (x : Int32) : Prop := x < 0 ∨ ¬ x ≤ nI m
theorem notBad {m k : Nat} (hm : m < 2147483648) (h : k ≤ m) : ¬ Bad m (nI k) := by
  intro q
  rcases q with q | q
  · exact nI_pos (show k < 2 ^ 31 by omega) q
  · exact q (nI_le h hm)
theorem goodN {m : Nat} (hm : m < 2147483648) {x : Int32} (h0 : ¬ x < 0) (h1 : x ≤ nI m) : ∃ k : Nat, k ≤ m ∧ x = nI k := nI_of2 (nI_toInt hm) h0 h1
theorem goodB {m : Nat} (hm : m < 2147483648) {x : Int32} (h : ¬ Bad m x) : ∃ k : Nat, k ≤ m ∧ x = nI k := by
  refine goodN hm (fun q => h (Or.inl q)) ?_
  by_cases q : x ≤ nI m
  · exact q
  · exact absurd (Or.inr q) h
/-! who wins -/
def wt (d : Nat) : Nat := [0, 1, 3, 4, 6, 8, 9, 11, 12, 14, 16, 17, 19, 21, 22, 24].getD d 0
def goldB (a b : Nat) : Bool := if a < b then decide (a ≠ wt (b - a)) else decide (b ≠ wt (a - b))
def ratR (lo hi : Nat) : Bool := decide (0 < lo ∧ (lo = hi ∨ hi * lo + lo * lo < hi * hi))
def ratB (a b : Nat) : Bool := if a < b then ratR a b else ratR b a
def lastB (a b c : Nat) : Bool := decide (a < 2 ∧ b < 2 ∧ c < 2) == decide (a ^^^ b ^^^ c = 0)
def wonB (g a b c : Nat) : Bool :=
  if g = 0 then decide (a ^^^ b ^^^ c ≠ 0) else if g = 1 then lastB a b c else if g = 2 then decide (a ≠ b ∨ b ≠ c) else if g = 3 then decide (a ≠ c)
  else if g = 4 then goldB a b else if g = 5 then ratB a b else decide ((a ^^^ b ^^^ c) &&& 3 ≠ 0)
theorem wt_root : ∀ d, d < 16 → ∀ s, s < 40 → s * s ≤ 5 * d * d → 5 * d * d < (s + 1) * (s + 1) → (d + s) / 2 = wt d := by decide +kernel
/-- the least part of a number as a sum of Fibonacci numbers -/
def lpv (n : Nat) : Nat := [0, 1, 2, 3, 1, 5, 1, 2, 8, 1, 2, 3, 1, 13, 1, 2, 3, 1, 5, 1, 2, 21, 1, 2, 3, 1, 5, 1, 2, 8, 1, 2, 3, 1, 34, 1, 2, 3, 1, 5, 1, 2, 8, 1, 2, 3, 1, 13, 1, 2, 3, 1, 5, 1, 2, 55, 1, 2, 3, 1, 5].getD n 0
/-- the greatest Fibonacci number that goes in -/
def gfib (n : Nat) : Nat := if n < 2 then 1 else if n < 3 then 2 else if n < 5 then 3 else if n < 8 then 5 else if n < 13 then 8 else if n < 21 then 13 else if n < 34 then 21 else if n < 55 then 34 else 55
theorem lpv_step : ∀ n, n < 61 → 0 < n → gfib n ≤ n ∧ (if n - gfib n = 0 then lpv n = gfib n else lpv (n - gfib n) = lpv n) := by decide +kernel
theorem gfib_pos (n : Nat) : 0 < gfib n := by unfold gfib; repeat' split
                                              all_goals omega
/-- Fibonacci pairs (1,2), (2,3), (3,5) .. up to (55,89) -/
def fpair (x y : Nat) : Prop := (x = 1 ∧ y = 2) ∨ (x = 2 ∧ y = 3) ∨ (x = 3 ∧ y = 5) ∨ (x = 5 ∧ y = 8) ∨ (x = 8 ∧ y = 13) ∨ (x = 13 ∧ y = 21) ∨ (x = 21 ∧ y = 34) ∨ (x = 34 ∧ y = 55) ∨ (x = 55 ∧ y = 89)
theorem fpair_next {x y n : Nat} (h : fpair x y) (hn : n < 61) (hy : y ≤ n) : fpair y (x + y) := by
  rcases h with ⟨rfl, rfl⟩ | ⟨rfl, rfl⟩ | ⟨rfl, rfl⟩ | ⟨rfl, rfl⟩ | ⟨rfl, rfl⟩ | ⟨rfl, rfl⟩ | ⟨rfl, rfl⟩ | ⟨rfl, rfl⟩ | ⟨rfl, rfl⟩
  all_goals first
    | (exfalso; omega)
    | simp [fpair]
theorem fpair_g {x y n : Nat} (h : fpair x y) (h1 : x ≤ n) (h2 : n < y) : gfib n = x := by
  rcases h with ⟨rfl, rfl⟩ | ⟨rfl, rfl⟩ | ⟨rfl, rfl⟩ | ⟨rfl, rfl⟩ | ⟨rfl, rfl⟩ | ⟨rfl, rfl⟩ | ⟨rfl, rfl⟩ | ⟨rfl, rfl⟩ | ⟨rfl, rfl⟩
  all_goals
    unfold gfib
    repeat' split
    all_goals omega
theorem fpair_bd {x y : Nat} (h : fpair x y) : 0 < x ∧ x < y ∧ y < 90 := by
  rcases h with ⟨rfl, rfl⟩ | ⟨rfl, rfl⟩ | ⟨rfl, rfl⟩ | ⟨rfl, rfl⟩ | ⟨rfl, rfl⟩ | ⟨rfl, rfl⟩ | ⟨rfl, rfl⟩ | ⟨rfl, rfl⟩ | ⟨rfl, rfl⟩
  all_goals decide
def wwB (n most : Nat) : Bool := decide (0 < n ∧ lpv n ≤ most)
/-! strictly rising runs of numbers, and their members -/
def Srt (n : Nat) (f : Nat → Nat) : Prop := (∀ i j, i < j → j < n → f i < f j) ∧ ∀ i, i < n → f i < 65536
def In (n : Nat) (f : Nat → Nat) (v : Nat) : Prop := ∃ k, k < n ∧ f k = v
theorem Srt.zero (f : Nat → Nat) : Srt 0 f := ⟨fun i j _ h => by omega, fun i h => by omega⟩
theorem In.zero {f : Nat → Nat} {v : Nat} : ¬ In 0 f v := fun ⟨k, h, _⟩ => by omega
/-- putting x at place i of a rising run -/
theorem ins_spec {n i x : Nat} {f h : Nat → Nat} (hs : Srt n f) (hx : x < 65536) (hi : i ≤ n) (hlo : ∀ k, k < i → f k < x) (hup : ∀ k, i ≤ k → k < n → x < f k)
    (e0 : ∀ k, k < i → h k = f k) (e1 : h i = x) (e2 : ∀ k, i < k → k ≤ n → h k = f (k - 1)) : Srt (n + 1) h ∧ ∀ v, In (n + 1) h v ↔ In n f v ∨ v = x := by
  refine ⟨⟨fun p q hpq hq => ?_, fun p hp => ?_⟩, fun v => ⟨?_, ?_⟩⟩
  · rcases Nat.lt_trichotomy p i with h1 | h1 | h1
    · rw [e0 p h1]
      rcases Nat.lt_trichotomy q i with h2 | h2 | h2
      · rw [e0 q h2]; exact hs.1 p q hpq (by omega)
      · rw [h2, e1]; exact hlo p h1
      · rw [e2 q h2 (by omega)]
        rcases Nat.lt_or_ge p (q - 1) with h3 | h3
        · exact hs.1 p (q - 1) h3 (by omega)
        · omega
    · rw [h1, e1, e2 q (by omega) (by omega)]; exact hup (q - 1) (by omega) (by omega)
    · rw [e2 p h1 (by omega), e2 q (by omega) (by omega)]; exact hs.1 (p - 1) (q - 1) (by omega) (by omega)
  · rcases Nat.lt_trichotomy p i with h1 | h1 | h1
    · rw [e0 p h1]; exact hs.2 p (by omega)
    · rw [h1, e1]; exact hx
    · rw [e2 p h1 (by omega)]; exact hs.2 (p - 1) (by omega)
  · rintro ⟨k, hk, rfl⟩
    rcases Nat.lt_trichotomy k i with h1 | h1 | h1
    · left; exact ⟨k, by omega, (e0 k h1).symm⟩
    · right; rw [h1, e1]
    · left; exact ⟨k - 1, by omega, (e2 k h1 (by omega)).symm⟩
  · rintro (⟨k, hk, rfl⟩ | rfl)
    · rcases Nat.lt_or_ge k i with h1 | h1
      · exact ⟨k, by omega, e0 k h1⟩
      · exact ⟨k + 1, by omega, by rw [e2 (k + 1) (by omega) (by omega)]; rfl⟩
    · exact ⟨i, by omega, e1⟩
/-- what keep does -/
def Ins (n : Nat) (f : Nat → Nat) (x n' : Nat) (f' : Nat → Nat) : Prop := Srt n' f' ∧ n' ≤ n + 1 ∧ ∀ v, In n' f' v ↔ In n f v ∨ v = x
/-- which moves are wanted -/
def Kp (al g x y z : Nat) : Prop := al = 1 ∨ wonB g x y z = false
/-- the run holds the codes of the positions with R and K -/
def SetK (n : Nat) (f : Nat → Nat) (R K : Nat → Nat → Nat → Prop) : Prop := Srt n f ∧ ∀ x y z, x < 32 → y < 32 → (In n f (x + 32 * y + 1024 * z) ↔ R x y z ∧ K x y z)
theorem SetK.congr {n : Nat} {f : Nat → Nat} {R R' K : Nat → Nat → Nat → Prop} (h : SetK n f R K) (e : ∀ x y z, x < 32 → y < 32 → (R x y z ↔ R' x y z)) : SetK n f R' K :=
  ⟨h.1, fun x y z hx hy => by rw [h.2 x y z hx hy, e x y z hx hy]⟩
theorem SetK.zero (f : Nat → Nat) (K : Nat → Nat → Nat → Prop) : SetK 0 f (fun _ _ _ => False) K := ⟨Srt.zero f, fun x y z _ _ => ⟨fun h => absurd h In.zero, fun h => h.1.elim⟩⟩
theorem SetK.put {n n' p q r : Nat} {f f' : Nat → Nat} {R K : Nat → Nat → Nat → Prop} (h : SetK n f R K) (hp : p < 32) (hq : q < 32) (hi : Ins n f (p + 32 * q + 1024 * r) n' f') (hk : K p q r) : SetK n' f' (fun x y z => R x y z ∨ (x = p ∧ y = q ∧ z = r)) K := by
  refine ⟨hi.1, fun x y z hx hy => ?_⟩
  rw [hi.2.2, h.2 x y z hx hy]
  constructor
  · rintro (⟨h1, h2⟩ | h1)
    · exact ⟨Or.inl h1, h2⟩
    · have e : x = p ∧ y = q ∧ z = r := by omega
      obtain ⟨rfl, rfl, rfl⟩ := e
      exact ⟨Or.inr ⟨rfl, rfl, rfl⟩, hk⟩
  · rintro ⟨h1 | ⟨rfl, rfl, rfl⟩, h2⟩
    · exact Or.inl ⟨h1, h2⟩
    · exact Or.inr rfl
theorem SetK.skip {n p q r : Nat} {f : Nat → Nat} {R K : Nat → Nat → Nat → Prop} (h : SetK n f R K) (hk : ¬ K p q r) : SetK n f (fun x y z => R x y z ∨ (x = p ∧ y = q ∧ z = r)) K := by
  refine ⟨h.1, fun x y z hx hy => ?_⟩
  rw [h.2 x y z hx hy]
  constructor
  · rintro ⟨h1, h2⟩; exact ⟨Or.inl h1, h2⟩
  · rintro ⟨h1 | ⟨rfl, rfl, rfl⟩, h2⟩
    · exact ⟨h1, h2⟩
    · exact absurd h2 hk
/-- two rising runs with the same members are the same -/
theorem Srt.le {n m : Nat} {f h : Nat → Nat} (hf : Srt n f) (hh : Srt m h) (e : ∀ v, In n f v → In m h v) : ∀ k, k < n → k < m ∧ h k ≤ f k := by
  intro k
  induction k with
  | zero =>
    intro hk
    obtain ⟨j, hj, ej⟩ := e (f 0) ⟨0, hk, rfl⟩
    refine ⟨by omega, ?_⟩
    rcases Nat.eq_zero_or_pos j with h0 | h0
    · subst h0; omega
    · have := hh.1 0 j h0 hj; omega
  | succ k ih =>
    intro hk
    obtain ⟨h1, h2⟩ := ih (by omega)
    have h3 := hf.1 k (k + 1) (by omega) hk
    obtain ⟨j, hj, ej⟩ := e (f (k + 1)) ⟨k + 1, hk, rfl⟩
    have h4 : k < j := by
      rcases Nat.lt_or_ge k j with q | q
      · exact q
      · have : h j ≤ h k := by
          rcases Nat.lt_or_ge j k with q2 | q2
          · have := hh.1 j k q2 h1; omega
          · have : j = k := by omega
            subst this; exact Nat.le_refl _
        omega
    refine ⟨by omega, ?_⟩
    rcases Nat.lt_or_ge (k + 1) j with q | q
    · have := hh.1 (k + 1) j q hj; omega
    · have : j = k + 1 := by omega
      subst this; omega
theorem Srt.uniq {n m : Nat} {f h : Nat → Nat} (hf : Srt n f) (hh : Srt m h) (e : ∀ v, In n f v ↔ In m h v) : n = m ∧ ∀ k, k < n → f k = h k := by
  have a := Srt.le hf hh (fun v => (e v).mp)
  have b := Srt.le hh hf (fun v => (e v).mpr)
  have hnm : n = m := by
    rcases Nat.lt_trichotomy n m with q | q | q
    · have := (b n q).1; omega
    · exact q
    · have := (a m q).1; omega
  refine ⟨hnm, fun k hk => ?_⟩
  have h1 := (a k hk).2
  have h2 := (b k (by omega)).2
  omega
/-- pigeonhole: a run without repeats that goes into another is no longer than it -/
theorem inj_le : ∀ (n m : Nat) (f h : Nat → Nat), (∀ i j, i < n → j < n → f i = f j → i = j) → (∀ i, i < n → In m h (f i)) → n ≤ m
  | 0, _, _, _, _, _ => Nat.zero_le _
  | n + 1, m, f, h, hi, hm => by
    obtain ⟨p, hp, ep⟩ := hm n (by omega)
    have hm0 : 0 < m := by omega
    have : n ≤ m - 1 := by
      refine inj_le n (m - 1) f (fun k => if k = p then h (m - 1) else h k) (fun i j h1 h2 h3 => hi i j (by omega) (by omega) h3) (fun i h1 => ?_)
      obtain ⟨q, hq, eq⟩ := hm i (by omega)
      have hne : q ≠ p := by
        intro h2
        rw [h2, ep] at eq
        have := hi n i (by omega) (by omega) eq
        omega
      rcases Nat.lt_or_ge q (m - 1) with h2 | h2
      · exact ⟨q, h2, by show (if q = p then h (m - 1) else h q) = f i; rw [if_neg hne]; exact eq⟩
      · have hqm : q = m - 1 := by omega
        refine ⟨p, by omega, ?_⟩
        show (if p = p then h (m - 1) else h p) = f i
        rw [if_pos rfl, ← hqm]; exact eq
    omega
theorem inj_eq {n m : Nat} {f h : Nat → Nat} (hf : ∀ i j, i < n → j < n → f i = f j → i = j) (hh : ∀ i j, i < m → j < m → h i = h j → i = j) (e : ∀ v, In n f v ↔ In m h v) : n = m := by
  have a := inj_le n m f h hf (fun i hi => (e _).mp ⟨i, hi, rfl⟩)
  have b := inj_le m n h f hh (fun i hi => (e _).mpr ⟨i, hi, rfl⟩)
  omega
theorem Srt.inj {n : Nat} {f : Nat → Nat} (h : Srt n f) : ∀ i j, i < n → j < n → f i = f j → i = j := by
  intro i j hi hj e
  rcases Nat.lt_trichotomy i j with q | q | q
  · have := h.1 i j q hj; omega
  · exact q
  · have := h.1 j i q hi; omega
theorem lastB_t {v w x y z : Nat} (hv : (v = 1 ∧ x < 2 ∧ y < 2 ∧ z < 2) ∨ (v = 0 ∧ ¬ (x < 2 ∧ y < 2 ∧ z < 2))) (hw : (w = 1 ∧ x ^^^ y ^^^ z = 0) ∨ (w = 0 ∧ ¬ (x ^^^ y ^^^ z = 0))) (h : v = w) : lastB x y z = true := by
  unfold lastB
  rcases hv with ⟨h1, h2⟩ | ⟨h1, h2⟩ <;> rcases hw with ⟨h3, h4⟩ | ⟨h3, h4⟩
  · rw [decide_eq_true h2, decide_eq_true h4]; rfl
  · omega
  · omega
  · rw [decide_eq_false h2, decide_eq_false h4]; rfl
theorem lastB_f {v w x y z : Nat} (hv : (v = 1 ∧ x < 2 ∧ y < 2 ∧ z < 2) ∨ (v = 0 ∧ ¬ (x < 2 ∧ y < 2 ∧ z < 2))) (hw : (w = 1 ∧ x ^^^ y ^^^ z = 0) ∨ (w = 0 ∧ ¬ (x ^^^ y ^^^ z = 0))) (h : v ≠ w) : lastB x y z = false := by
  unfold lastB
  rcases hv with ⟨h1, h2⟩ | ⟨h1, h2⟩ <;> rcases hw with ⟨h3, h4⟩ | ⟨h3, h4⟩
  · omega
  · rw [decide_eq_true h2, decide_eq_false h4]; rfl
  · rw [decide_eq_false h2, decide_eq_true h4]; rfl
  · omega
theorem wonB_0 {q x y z : Nat} (h : q = 0) : wonB q x y z = decide (x ^^^ y ^^^ z ≠ 0) := by subst h; rfl
theorem wonB_1 {q x y z : Nat} (h : q = 1) : wonB q x y z = lastB x y z := by subst h; rfl
theorem wonB_2 {q x y z : Nat} (h : q = 2) : wonB q x y z = decide (x ≠ y ∨ y ≠ z) := by subst h; rfl
theorem wonB_3 {q x y z : Nat} (h : q = 3) : wonB q x y z = decide (x ≠ z) := by subst h; rfl
theorem wonB_4 {q x y z : Nat} (h : q = 4) : wonB q x y z = goldB x y := by subst h; rfl
theorem wonB_5 {q x y z : Nat} (h : q = 5) : wonB q x y z = ratB x y := by subst h; rfl
theorem wonB_7 {q x y z : Nat} (h : 5 < q) : wonB q x y z = decide ((x ^^^ y ^^^ z) &&& 3 ≠ 0) := by
  unfold wonB
  rw [if_neg (by omega), if_neg (by omega), if_neg (by omega), if_neg (by omega), if_neg (by omega), if_neg (by omega)]
end
section
set_option maxHeartbeats 4000000 in
set_option maxRecDepth 100000 in
theorem m0_badGame (g : GG) (st : S0) (x : Int32) : C0I g yX0_badGame cX0_badGame 2 .boolean 0 [.int x] st (fun r u => u = st ∧ ∃ q, q ≤ 1 ∧ r = nI q ∧ (q ≠ 0 → Bad 7 x) ∧ (q = 0 → ∃ k : Nat, k ≤ 7 ∧ x = nI k)) := by
  refine CtI.ofz RX0 [some (.ref (go g)), some (.int x)] (by decide) rfl (by intro w hw; simp at hw; rcases hw with rfl | rfl <;> rfl) (Nat.le_of_ble_eq_true rfl) rfl ?_
  intro F Q E hR
  refine z_ild1 E dX0_badGame_0 ?_
  refine zr_if_lt E 10 dX0_badGame_1 (by decide) (fun c1 => ?_) (fun c1 => ?_)
  · refine z_ic1 E dX0_badGame_10 ?_
    refine z_goto E 15 dX0_badGame_11 (by decide) ?_
    exact hR dX0_badGame_15 (by decide) ⟨rfl, 1, by decide, rfl, fun _ => Or.inl c1, fun h => absurd h (by decide)⟩
  · refine z_ild1 E dX0_badGame_4 ?_
    refine z_bipush E 7 (by decide) dX0_badGame_5 ?_
    refine zr_icmp_le E 14 dX0_badGame_7 (by decide) (fun c7 => ?_) (fun c7 => ?_)
    · refine z_ic0 E dX0_badGame_14 ?_
      exact hR dX0_badGame_15 (by decide) ⟨rfl, 0, by decide, rfl, fun h => absurd rfl h, fun _ => goodN (by decide) c1 c7⟩
    · refine z_ic1 E dX0_badGame_10 ?_
      refine z_goto E 15 dX0_badGame_11 (by decide) ?_
      exact hR dX0_badGame_15 (by decide) ⟨rfl, 1, by decide, rfl, fun _ => Or.inr c7, fun h => absurd h (by decide)⟩
set_option maxHeartbeats 4000000 in
set_option maxRecDepth 100000 in
theorem m0_badHeap (g : GG) (st : S0) (x : Int32) : C0I g yX0_badHeap cX0_badHeap 2 .boolean 0 [.int x] st (fun r u => u = st ∧ ∃ q, q ≤ 1 ∧ r = nI q ∧ (q ≠ 0 → Bad 2 x) ∧ (q = 0 → ∃ k : Nat, k ≤ 2 ∧ x = nI k)) := by
  refine CtI.ofz RX0 [some (.ref (go g)), some (.int x)] (by decide) rfl (by intro w hw; simp at hw; rcases hw with rfl | rfl <;> rfl) (Nat.le_of_ble_eq_true rfl) rfl ?_
  intro F Q E hR
  refine z_ild1 E dX0_badHeap_0 ?_
  refine zr_if_lt E 9 dX0_badHeap_1 (by decide) (fun c1 => ?_) (fun c1 => ?_)
  · refine z_ic1 E dX0_badHeap_9 ?_
    refine z_goto E 14 dX0_badHeap_10 (by decide) ?_
    exact hR dX0_badHeap_14 (by decide) ⟨rfl, 1, by decide, rfl, fun _ => Or.inl c1, fun h => absurd h (by decide)⟩
  · refine z_ild1 E dX0_badHeap_4 ?_
    refine z_ic2 E dX0_badHeap_5 ?_
    refine zr_icmp_le E 13 dX0_badHeap_6 (by decide) (fun c6 => ?_) (fun c6 => ?_)
    · refine z_ic0 E dX0_badHeap_13 ?_
      exact hR dX0_badHeap_14 (by decide) ⟨rfl, 0, by decide, rfl, fun h => absurd rfl h, fun _ => goodN (by decide) c1 c6⟩
    · refine z_ic1 E dX0_badHeap_9 ?_
      refine z_goto E 14 dX0_badHeap_10 (by decide) ?_
      exact hR dX0_badHeap_14 (by decide) ⟨rfl, 1, by decide, rfl, fun _ => Or.inr c6, fun h => absurd h (by decide)⟩
set_option maxHeartbeats 4000000 in
set_option maxRecDepth 100000 in
theorem m0_heap (g : GG) (a b c n : Nat) (mv : Nat → Nat) (i k : Int32) : C0I g yX0_heap cX0_heap 4 .int 1 [.int i, .int k] (a, b, c, n, mv) (fun r u => (r = -1 ∧ u = (a, b, c, n, mv) ∧ (Bad 2 i ∨ Bad 15 k)) ∨ ∃ j v : Nat, j ≤ 2 ∧ v ≤ 15 ∧ i = nI j ∧ k = nI v ∧ r = nI (hN a b c j) ∧ u = (upN (hN a b c) j v 0, upN (hN a b c) j v 1, upN (hN a b c) j v 2, n, mv)) := by
  refine CtI.of RX0 [some (.ref (go g)), some (.int i), some (.int k), none] (by decide) rfl (by intro w hw; simp at hw; rcases hw with rfl | rfl | rfl <;> rfl) (Nat.le_of_ble_eq_true rfl) rfl ?_
  intro F Q E hR
  refine z_ald0 E dX0_heap_0 ?_
  refine z_ild1 E dX0_heap_1 ?_
  refine z0_c_badHeap E dX0_heap_2 (by decide) (Nat.le_of_ble_eq_true rfl) (m0_badHeap g _ _) (fun r2 u2 h2 => ?_)
  obtain ⟨rfl, q2, hq2, rfl, hb2, hg2⟩ := h2
  refine z_if_ne E (show q2 < 2147483648 by omega) 18 dX0_heap_5 (by decide) (fun c5 => ?_) (fun c5 => ?_)
  · refine z_icm1 E dX0_heap_18 ?_
    exact hR dX0_heap_19 (Or.inl ⟨rfl, rfl, Or.inl (hb2 c5)⟩)
  · refine z_ild2 E dX0_heap_8 ?_
    refine zr_if_lt E 18 dX0_heap_9 (by decide) (fun c9 => ?_) (fun c9 => ?_)
    · refine z_icm1 E dX0_heap_18 ?_
      exact hR dX0_heap_19 (Or.inl ⟨rfl, rfl, Or.inr (Or.inl c9)⟩)
    · refine z_ild2 E dX0_heap_12 ?_
      refine z_bipush E 15 (by decide) dX0_heap_13 ?_
      refine zr_icmp_le E 20 dX0_heap_15 (by decide) (fun c15 => ?_) (fun c15 => ?_)
      · (obtain ⟨j, hj, rfl⟩ := hg2 c5; obtain ⟨v, hv, rfl⟩ := goodN (by decide) c9 c15; rcases (show j = 0 ∨ j = 1 ∨ j = 2 by omega) with rfl | rfl | rfl)
        · refine z_ald0 E dX0_heap_20 ?_
          refine z0_get_heaps E dX0_heap_21 ?_
          refine z_ild1 E dX0_heap_24 ?_
          refine z0_h0 E dX0_heap_25 ?_
          refine z_ist3 E dX0_heap_26 ?_
          refine z_ald0 E dX0_heap_27 ?_
          refine z0_get_heaps E dX0_heap_28 ?_
          refine z_ild1 E dX0_heap_31 ?_
          refine z_ild2 E dX0_heap_32 ?_
          refine z0_hset0 E dX0_heap_33 ?_
          refine z_ild3 E dX0_heap_34 ?_
          exact hR dX0_heap_35 (Or.inr ⟨0, v, by decide, hv, rfl, rfl, rfl, rfl⟩)
        · refine z_ald0 E dX0_heap_20 ?_
          refine z0_get_heaps E dX0_heap_21 ?_
          refine z_ild1 E dX0_heap_24 ?_
          refine z0_h1 E dX0_heap_25 ?_
          refine z_ist3 E dX0_heap_26 ?_
          refine z_ald0 E dX0_heap_27 ?_
          refine z0_get_heaps E dX0_heap_28 ?_
          refine z_ild1 E dX0_heap_31 ?_
          refine z_ild2 E dX0_heap_32 ?_
          refine z0_hset1 E dX0_heap_33 ?_
          refine z_ild3 E dX0_heap_34 ?_
          exact hR dX0_heap_35 (Or.inr ⟨1, v, by decide, hv, rfl, rfl, rfl, rfl⟩)
        · refine z_ald0 E dX0_heap_20 ?_
          refine z0_get_heaps E dX0_heap_21 ?_
          refine z_ild1 E dX0_heap_24 ?_
          refine z0_h2 E dX0_heap_25 ?_
          refine z_ist3 E dX0_heap_26 ?_
          refine z_ald0 E dX0_heap_27 ?_
          refine z0_get_heaps E dX0_heap_28 ?_
          refine z_ild1 E dX0_heap_31 ?_
          refine z_ild2 E dX0_heap_32 ?_
          refine z0_hset2 E dX0_heap_33 ?_
          refine z_ild3 E dX0_heap_34 ?_
          exact hR dX0_heap_35 (Or.inr ⟨2, v, by decide, hv, rfl, rfl, rfl, rfl⟩)
      · refine z_icm1 E dX0_heap_18 ?_
        exact hR dX0_heap_19 (Or.inl ⟨rfl, rfl, Or.inr (Or.inr c15)⟩)
set_option maxHeartbeats 4000000 in
set_option maxRecDepth 100000 in
theorem m0_has (g : GG) (a b c n : Nat) (mv : Nat → Nat) (i : Int32) : C0I g yX0_has cX0_has 2 .int 1 [.int i] (a, b, c, n, mv) (fun r u => u = (a, b, c, n, mv) ∧ ((r = -1 ∧ Bad 2 i) ∨ ∃ j : Nat, j ≤ 2 ∧ i = nI j ∧ r = nI (hN a b c j))) := by
  refine CtI.of RX0 [some (.ref (go g)), some (.int i)] (by decide) rfl (by intro w hw; simp at hw; rcases hw with rfl | rfl <;> rfl) (Nat.le_of_ble_eq_true rfl) rfl ?_
  intro F Q E hR
  refine z_ald0 E dX0_has_0 ?_
  refine z_ild1 E dX0_has_1 ?_
  refine z0_c_badHeap E dX0_has_2 (by decide) (Nat.le_of_ble_eq_true rfl) (m0_badHeap g _ _) (fun r2 u2 h2 => ?_)
  obtain ⟨rfl, q2, hq2, rfl, hb2, hg2⟩ := h2
  refine z_if_eq E (show q2 < 2147483648 by omega) 12 dX0_has_5 (by decide) (fun c5 => ?_) (fun c5 => ?_)
  · obtain ⟨j, hj, rfl⟩ := hg2 c5
    refine z_ald0 E dX0_has_12 ?_
    refine z0_get_heaps E dX0_has_13 ?_
    refine z_ild1 E dX0_has_16 ?_
    refine z0_hi E (by omega) dX0_has_17 ?_
    exact hR dX0_has_18 ⟨rfl, Or.inr ⟨j, hj, rfl, rfl⟩⟩
  · refine z_icm1 E dX0_has_8 ?_
    refine z_goto E 18 dX0_has_9 (by decide) ?_
    exact hR dX0_has_18 ⟨rfl, Or.inl ⟨rfl, hb2 c5⟩⟩
set_option maxHeartbeats 4000000 in
set_option maxRecDepth 100000 in
theorem m0_rootOf (g : GG) (st : S0) (x : Nat) (hx : x ≤ 1125) : C0I g yX0_rootOf cX0_rootOf 3 .int 0 [.int (nI x)] st (fun r u => u = st ∧ ∃ q, r = nI q ∧ q * q ≤ x ∧ x < (q + 1) * (q + 1) ∧ q < 40) := by
  refine CtI.of RX0 [some (.ref (go g)), some (.int (nI x)), none] (by decide) rfl (by intro w hw; simp at hw; rcases hw with rfl | rfl <;> rfl) (Nat.le_of_ble_eq_true rfl) rfl ?_
  intro F Q E hR
  refine z_ic0 E dX0_rootOf_0 ?_
  refine z_ist2 E dX0_rootOf_1 ?_
  have L2 : ∀ (fuel : Nat) (r : Nat), (r * r ≤ x) → (r < 40) → (40 ≤ r + fuel) → Z0 g F Q 3 st 2 [some (.ref (go g)), some (.int (nI x)), some (.int (nI r))] [] := by
    intro fuel
    induction fuel with
    | zero =>
      intro r h1 h2 h3
      exfalso; omega
    | succ fuel ih2 =>
      intro r h1 h2 h3
      have hb : (r + 1) * (r + 1) ≤ 40 * 40 := Nat.mul_le_mul (by omega) (by omega)
      have hc : r < 34 := by
        rcases Nat.lt_or_ge r 34 with q | q
        · exact q
        · have := Nat.mul_le_mul q q; omega
      refine z_ild2 E dX0_rootOf_2 ?_
      refine z_ic1 E dX0_rootOf_3 ?_
      refine z_iadd E dX0_rootOf_4 ?_
      refine z_ild2 E dX0_rootOf_5 ?_
      refine z_ic1 E dX0_rootOf_6 ?_
      refine z_iadd E dX0_rootOf_7 ?_
      refine z_imul E dX0_rootOf_8 ?_
      refine z_ild1 E dX0_rootOf_9 ?_
      refine z_icmp_gt E (by omega) (by omega) 19 dX0_rootOf_10 (by decide) (fun c10 => ?_) (fun c10 => ?_)
      · refine z_ild2 E dX0_rootOf_19 ?_
        exact hR dX0_rootOf_20 ⟨rfl, r, rfl, h1, by omega, by omega⟩
      · refine z_inc2 E dX0_rootOf_13 ?_
        refine z_goto E 2 dX0_rootOf_16 (by decide) ?_
        exact ih2 (r + 1) (by omega) (by omega) (by omega)
  exact L2 40 0 (by omega) (by omega) (by omega)
set_option maxHeartbeats 4000000 in
set_option maxRecDepth 100000 in
theorem m0_wonGolden (g : GG) (st : S0) (x y : Nat) (hx : x ≤ 15) (hy : y ≤ 15) : C0I g yX0_wonGolden cX0_wonGolden 5 .boolean 1 [.int (nI x), .int (nI y)] st (fun r u => u = st ∧ r = nI (bn (goldB x y))) := by
  refine CtI.ofz RX0 [some (.ref (go g)), some (.int (nI x)), some (.int (nI y)), none, none] (by decide) rfl (by intro w hw; simp at hw; rcases hw with rfl | rfl | rfl <;> rfl) (Nat.le_of_ble_eq_true rfl) rfl ?_
  intro F Q E hR
  refine z_ild1 E dX0_wonGolden_0 ?_
  refine z_ild2 E dX0_wonGolden_1 ?_
  refine z_icmp_ge E (by omega) (by omega) 9 dX0_wonGolden_2 (by decide) (fun c2 => ?_) (fun c2 => ?_)
  · refine z_ild2 E dX0_wonGolden_9 ?_
    refine z_ist3 E dX0_wonGolden_10 ?_
    refine z_ild1 E dX0_wonGolden_11 ?_
    refine z_ild2 E dX0_wonGolden_12 ?_
    refine z_icmp_ge E (by omega) (by omega) 22 dX0_wonGolden_13 (by decide) (fun c13 => ?_) (fun c13 => ?_)
    · refine z_ild1 E dX0_wonGolden_22 ?_
      refine z_ild2 E dX0_wonGolden_23 ?_
      refine z_isub E (by omega) dX0_wonGolden_24 ?_
      refine z_ist4 E dX0_wonGolden_25 ?_
      have hd : 5 * (x - y) * (x - y) ≤ 5 * 15 * 15 := Nat.mul_le_mul (Nat.mul_le_mul_left 5 (by omega)) (by omega)
      refine z_ild3 E dX0_wonGolden_27 ?_
      refine z_ild4 E dX0_wonGolden_28 ?_
      refine z_ald0 E dX0_wonGolden_30 ?_
      refine z_ic5 E dX0_wonGolden_31 ?_
      refine z_ild4 E dX0_wonGolden_32 ?_
      refine z_imul E dX0_wonGolden_34 ?_
      refine z_ild4 E dX0_wonGolden_35 ?_
      refine z_imul E dX0_wonGolden_37 ?_
      refine z0_c_rootOf E dX0_wonGolden_38 (by decide) (Nat.le_of_ble_eq_true rfl) (m0_rootOf g _ (5 * (x - y) * (x - y)) hd) (fun r38 u38 h38 => ?_)
      obtain ⟨rfl, s, rfl, hs1, hs2, hs3⟩ := h38
      have hw := wt_root (x - y) (by omega) s hs3 hs1 hs2
      refine z_iadd E dX0_wonGolden_41 ?_
      refine z_ic2 E dX0_wonGolden_42 ?_
      refine z_idiv E (by omega) (by omega) (by omega) dX0_wonGolden_43 ?_
      refine z_icmp_eq E (by omega) (by omega) 51 dX0_wonGolden_44 (by decide) (fun c44 => ?_) (fun c44 => ?_)
      · refine z_ic0 E dX0_wonGolden_51 ?_
        exact hR dX0_wonGolden_52 (by decide) ⟨rfl, pF (by rw [goldB, if_neg (by omega), ← hw]; exact decide_eq_false (fun h => h c44))⟩
      · refine z_ic1 E dX0_wonGolden_47 ?_
        refine z_goto E 52 dX0_wonGolden_48 (by decide) ?_
        exact hR dX0_wonGolden_52 (by decide) ⟨rfl, pT (by rw [goldB, if_neg (by omega), ← hw]; exact decide_eq_true c44)⟩
    · exfalso; omega
  · refine z_ild1 E dX0_wonGolden_5 ?_
    refine z_goto E 10 dX0_wonGolden_6 (by decide) ?_
    refine z_ist3 E dX0_wonGolden_10 ?_
    refine z_ild1 E dX0_wonGolden_11 ?_
    refine z_ild2 E dX0_wonGolden_12 ?_
    refine z_icmp_ge E (by omega) (by omega) 22 dX0_wonGolden_13 (by decide) (fun c13 => ?_) (fun c13 => ?_)
    · exfalso; omega
    · refine z_ild2 E dX0_wonGolden_16 ?_
      refine z_ild1 E dX0_wonGolden_17 ?_
      refine z_isub E (by omega) dX0_wonGolden_18 ?_
      refine z_goto E 25 dX0_wonGolden_19 (by decide) ?_
      refine z_ist4 E dX0_wonGolden_25 ?_
      have hd : 5 * (y - x) * (y - x) ≤ 5 * 15 * 15 := Nat.mul_le_mul (Nat.mul_le_mul_left 5 (by omega)) (by omega)
      refine z_ild3 E dX0_wonGolden_27 ?_
      refine z_ild4 E dX0_wonGolden_28 ?_
      refine z_ald0 E dX0_wonGolden_30 ?_
      refine z_ic5 E dX0_wonGolden_31 ?_
      refine z_ild4 E dX0_wonGolden_32 ?_
      refine z_imul E dX0_wonGolden_34 ?_
      refine z_ild4 E dX0_wonGolden_35 ?_
      refine z_imul E dX0_wonGolden_37 ?_
      refine z0_c_rootOf E dX0_wonGolden_38 (by decide) (Nat.le_of_ble_eq_true rfl) (m0_rootOf g _ (5 * (y - x) * (y - x)) hd) (fun r38 u38 h38 => ?_)
      obtain ⟨rfl, s, rfl, hs1, hs2, hs3⟩ := h38
      have hw := wt_root (y - x) (by omega) s hs3 hs1 hs2
      refine z_iadd E dX0_wonGolden_41 ?_
      refine z_ic2 E dX0_wonGolden_42 ?_
      refine z_idiv E (by omega) (by omega) (by omega) dX0_wonGolden_43 ?_
      refine z_icmp_eq E (by omega) (by omega) 51 dX0_wonGolden_44 (by decide) (fun c44 => ?_) (fun c44 => ?_)
      · refine z_ic0 E dX0_wonGolden_51 ?_
        exact hR dX0_wonGolden_52 (by decide) ⟨rfl, pF (by rw [goldB, if_pos (by omega), ← hw]; exact decide_eq_false (fun h => h c44))⟩
      · refine z_ic1 E dX0_wonGolden_47 ?_
        refine z_goto E 52 dX0_wonGolden_48 (by decide) ?_
        exact hR dX0_wonGolden_52 (by decide) ⟨rfl, pT (by rw [goldB, if_pos (by omega), ← hw]; exact decide_eq_true c44)⟩
set_option maxHeartbeats 4000000 in
set_option maxRecDepth 100000 in
theorem m0_wonRatio (g : GG) (st : S0) (x y : Nat) (hx : x ≤ 31) (hy : y ≤ 31) : C0I g yX0_wonRatio cX0_wonRatio 5 .boolean 0 [.int (nI x), .int (nI y)] st (fun r u => u = st ∧ r = nI (bn (ratB x y))) := by
  refine CtI.ofz RX0 [some (.ref (go g)), some (.int (nI x)), some (.int (nI y)), none, none] (by decide) rfl (by intro w hw; simp at hw; rcases hw with rfl | rfl | rfl <;> rfl) (Nat.le_of_ble_eq_true rfl) rfl ?_
  intro F Q E hR
  refine z_ild1 E dX0_wonRatio_0 ?_
  refine z_ild2 E dX0_wonRatio_1 ?_
  refine z_icmp_ge E (by omega) (by omega) 9 dX0_wonRatio_2 (by decide) (fun c2 => ?_) (fun c2 => ?_)
  · refine z_ild2 E dX0_wonRatio_9 ?_
    refine z_ist3 E dX0_wonRatio_10 ?_
    refine z_ild1 E dX0_wonRatio_11 ?_
    refine z_ild2 E dX0_wonRatio_12 ?_
    refine z_icmp_ge E (by omega) (by omega) 20 dX0_wonRatio_13 (by decide) (fun c13 => ?_) (fun c13 => ?_)
    · refine z_ild1 E dX0_wonRatio_20 ?_
      refine z_ist4 E dX0_wonRatio_21 ?_
      have e1 : x * x ≤ 31 * 31 := Nat.mul_le_mul (by omega) (by omega)
      have e2 : x * y ≤ 31 * 31 := Nat.mul_le_mul (by omega) (by omega)
      have e3 : y * x ≤ 31 * 31 := Nat.mul_le_mul (by omega) (by omega)
      have e4 : y * y ≤ 31 * 31 := Nat.mul_le_mul (by omega) (by omega)
      refine z_ild3 E dX0_wonRatio_23 ?_
      refine z_if_le E (by omega) 53 dX0_wonRatio_24 (by decide) (fun c24 => ?_) (fun c24 => ?_)
      · refine z_ic0 E dX0_wonRatio_53 ?_
        exact hR dX0_wonRatio_54 (by decide) ⟨rfl, pF (by rw [ratB, if_neg (by omega), ratR]; exact decide_eq_false (by omega))⟩
      · refine z_ild3 E dX0_wonRatio_27 ?_
        refine z_ild4 E dX0_wonRatio_28 ?_
        refine z_icmp_eq E (by omega) (by omega) 49 dX0_wonRatio_30 (by decide) (fun c30 => ?_) (fun c30 => ?_)
        · refine z_ic1 E dX0_wonRatio_49 ?_
          refine z_goto E 54 dX0_wonRatio_50 (by decide) ?_
          exact hR dX0_wonRatio_54 (by decide) ⟨rfl, pT (by rw [ratB, if_neg (by omega), ratR]; exact decide_eq_true (by omega))⟩
        · refine z_ild4 E dX0_wonRatio_33 ?_
          refine z_ild4 E dX0_wonRatio_35 ?_
          refine z_imul E dX0_wonRatio_37 ?_
          refine z_ild4 E dX0_wonRatio_38 ?_
          refine z_ild3 E dX0_wonRatio_40 ?_
          refine z_imul E dX0_wonRatio_41 ?_
          refine z_ild3 E dX0_wonRatio_42 ?_
          refine z_ild3 E dX0_wonRatio_43 ?_
          refine z_imul E dX0_wonRatio_44 ?_
          refine z_iadd E dX0_wonRatio_45 ?_
          refine z_icmp_le E (by omega) (by omega) 53 dX0_wonRatio_46 (by decide) (fun c46 => ?_) (fun c46 => ?_)
          · refine z_ic0 E dX0_wonRatio_53 ?_
            exact hR dX0_wonRatio_54 (by decide) ⟨rfl, pF (by rw [ratB, if_neg (by omega), ratR]; exact decide_eq_false (by omega))⟩
          · refine z_ic1 E dX0_wonRatio_49 ?_
            refine z_goto E 54 dX0_wonRatio_50 (by decide) ?_
            exact hR dX0_wonRatio_54 (by decide) ⟨rfl, pT (by rw [ratB, if_neg (by omega), ratR]; exact decide_eq_true (by omega))⟩
    · exfalso; omega
  · refine z_ild1 E dX0_wonRatio_5 ?_
    refine z_goto E 10 dX0_wonRatio_6 (by decide) ?_
    refine z_ist3 E dX0_wonRatio_10 ?_
    refine z_ild1 E dX0_wonRatio_11 ?_
    refine z_ild2 E dX0_wonRatio_12 ?_
    refine z_icmp_ge E (by omega) (by omega) 20 dX0_wonRatio_13 (by decide) (fun c13 => ?_) (fun c13 => ?_)
    · exfalso; omega
    · refine z_ild2 E dX0_wonRatio_16 ?_
      refine z_goto E 21 dX0_wonRatio_17 (by decide) ?_
      refine z_ist4 E dX0_wonRatio_21 ?_
      have e1 : x * x ≤ 31 * 31 := Nat.mul_le_mul (by omega) (by omega)
      have e2 : x * y ≤ 31 * 31 := Nat.mul_le_mul (by omega) (by omega)
      have e3 : y * x ≤ 31 * 31 := Nat.mul_le_mul (by omega) (by omega)
      have e4 : y * y ≤ 31 * 31 := Nat.mul_le_mul (by omega) (by omega)
      refine z_ild3 E dX0_wonRatio_23 ?_
      refine z_if_le E (by omega) 53 dX0_wonRatio_24 (by decide) (fun c24 => ?_) (fun c24 => ?_)
      · refine z_ic0 E dX0_wonRatio_53 ?_
        exact hR dX0_wonRatio_54 (by decide) ⟨rfl, pF (by rw [ratB, if_pos (by omega), ratR]; exact decide_eq_false (by omega))⟩
      · refine z_ild3 E dX0_wonRatio_27 ?_
        refine z_ild4 E dX0_wonRatio_28 ?_
        refine z_icmp_eq E (by omega) (by omega) 49 dX0_wonRatio_30 (by decide) (fun c30 => ?_) (fun c30 => ?_)
        · refine z_ic1 E dX0_wonRatio_49 ?_
          refine z_goto E 54 dX0_wonRatio_50 (by decide) ?_
          exact hR dX0_wonRatio_54 (by decide) ⟨rfl, pT (by rw [ratB, if_pos (by omega), ratR]; exact decide_eq_true (by omega))⟩
        · refine z_ild4 E dX0_wonRatio_33 ?_
          refine z_ild4 E dX0_wonRatio_35 ?_
          refine z_imul E dX0_wonRatio_37 ?_
          refine z_ild4 E dX0_wonRatio_38 ?_
          refine z_ild3 E dX0_wonRatio_40 ?_
          refine z_imul E dX0_wonRatio_41 ?_
          refine z_ild3 E dX0_wonRatio_42 ?_
          refine z_ild3 E dX0_wonRatio_43 ?_
          refine z_imul E dX0_wonRatio_44 ?_
          refine z_iadd E dX0_wonRatio_45 ?_
          refine z_icmp_le E (by omega) (by omega) 53 dX0_wonRatio_46 (by decide) (fun c46 => ?_) (fun c46 => ?_)
          · refine z_ic0 E dX0_wonRatio_53 ?_
            exact hR dX0_wonRatio_54 (by decide) ⟨rfl, pF (by rw [ratB, if_pos (by omega), ratR]; exact decide_eq_false (by omega))⟩
          · refine z_ic1 E dX0_wonRatio_49 ?_
            refine z_goto E 54 dX0_wonRatio_50 (by decide) ?_
            exact hR dX0_wonRatio_54 (by decide) ⟨rfl, pT (by rw [ratB, if_pos (by omega), ratR]; exact decide_eq_true (by omega))⟩
set_option maxHeartbeats 4000000 in
set_option maxRecDepth 100000 in
theorem m0_leastPart (g : GG) (st : S0) (x : Nat) (hx : x ≤ 60) : C0I g yX0_leastPart cX0_leastPart 7 .int 0 [.int (nI x)] st (fun r u => u = st ∧ r = nI (lpv x)) := by
  refine CtI.of RX0 [some (.ref (go g)), some (.int (nI x)), none, none, none, none, none] (by decide) rfl (by intro w hw; simp at hw; rcases hw with rfl | rfl <;> rfl) (Nat.le_of_ble_eq_true rfl) rfl ?_
  intro F Q E hR
  have hx0 : (x = 0 ∧ 0 = lpv x) ∨ (0 < x ∧ lpv x = lpv x) := by
    rcases Nat.eq_zero_or_pos x with q | q
    · exact Or.inl ⟨q, by rw [q]; rfl⟩
    · exact Or.inr ⟨q, rfl⟩
  refine z_ild1 E dX0_leastPart_0 ?_
  refine z_ist2 E dX0_leastPart_1 ?_
  refine z_ic0 E dX0_leastPart_2 ?_
  refine z_ist3 E dX0_leastPart_3 ?_
  have L4 : ∀ (fuel : Nat) (left part : Nat) (o4 o5 o6 : Option Value), (left ≤ 60) → ((left = 0 ∧ part = lpv x) ∨ (0 < left ∧ lpv left = lpv x)) → (left < fuel) → Z0 g F Q 7 st 4 [some (.ref (go g)), some (.int (nI x)), some (.int (nI left)), some (.int (nI part)), o4, o5, o6] [] := by
    intro fuel
    induction fuel with
    | zero =>
      intro left part o4 o5 o6 h1 h2 h3
      exfalso; omega
    | succ fuel ih4 =>
      intro left part o4 o5 o6 h1 h2 h3
      refine z_ild2 E dX0_leastPart_4 ?_
      refine z_if_le E (by omega) 49 dX0_leastPart_5 (by decide) (fun c5 => ?_) (fun c5 => ?_)
      · refine z_ild3 E dX0_leastPart_49 ?_
        have e : part = lpv x := by
          rcases h2 with h2 | h2
          · exact h2.2
          · omega
        exact hR dX0_leastPart_50 ⟨rfl, by rw [e]⟩
      · refine z_ic1 E dX0_leastPart_8 ?_
        refine z_ist4 E dX0_leastPart_9 ?_
        refine z_ic2 E dX0_leastPart_11 ?_
        refine z_ist5 E dX0_leastPart_12 ?_
        have L14 : ∀ (fuel : Nat) (p q : Nat) (o6 : Option Value), (fpair p q) → (p ≤ left) → (100 < q + fuel) → Z0 g F Q 7 st 14 [some (.ref (go g)), some (.int (nI x)), some (.int (nI left)), some (.int (nI part)), some (.int (nI p)), some (.int (nI q)), o6] [] := by
          intro fuel
          induction fuel with
          | zero =>
            intro p q o6 k1 k2 k3
            exfalso; have kb := fpair_bd k1; omega
          | succ fuel ih14 =>
            intro p q o6 k1 k2 k3
            have kb := fpair_bd k1
            refine z_ild5 E dX0_leastPart_14 ?_
            refine z_ild2 E dX0_leastPart_16 ?_
            refine z_icmp_gt E (by omega) (by omega) 38 dX0_leastPart_17 (by decide) (fun c17 => ?_) (fun c17 => ?_)
            · have kg := fpair_g k1 k2 (by omega)
              obtain ⟨kl, ks⟩ := lpv_step left (by omega) (by omega)
              rw [kg] at kl ks
              have hnx : (left - p = 0 ∧ p = lpv x) ∨ (0 < left - p ∧ lpv (left - p) = lpv x) := by
                rcases h2 with h2 | h2
                · omega
                · rw [h2.2] at ks
                  split at ks
                  · exact Or.inl ⟨by assumption, ks.symm⟩
                  · exact Or.inr ⟨by omega, ks⟩
              refine z_ild4 E dX0_leastPart_38 ?_
              refine z_ist3 E dX0_leastPart_40 ?_
              refine z_ild2 E dX0_leastPart_41 ?_
              refine z_ild4 E dX0_leastPart_42 ?_
              refine z_isub E (by omega) dX0_leastPart_44 ?_
              refine z_ist2 E dX0_leastPart_45 ?_
              refine z_goto E 4 dX0_leastPart_46 (by decide) ?_
              exact ih4 _ _ _ _ _ (by omega) hnx (by omega)
            · refine z_ild4 E dX0_leastPart_20 ?_
              refine z_ild5 E dX0_leastPart_22 ?_
              refine z_iadd E dX0_leastPart_24 ?_
              refine z_ist6 E dX0_leastPart_25 ?_
              refine z_ild5 E dX0_leastPart_27 ?_
              refine z_ist4 E dX0_leastPart_29 ?_
              refine z_ild6 E dX0_leastPart_31 ?_
              refine z_ist5 E dX0_leastPart_33 ?_
              refine z_goto E 14 dX0_leastPart_35 (by decide) ?_
              exact ih14 _ _ _ (fpair_next k1 (by omega) c17) (by omega) (by omega)
        exact L14 100 1 2 _ (Or.inl ⟨rfl, rfl⟩) (by omega) (by omega)
  exact L4 61 x 0 _ _ _ (by omega) hx0 (by omega)
set_option maxHeartbeats 4000000 in
set_option maxRecDepth 100000 in
theorem m0_wonLast (g : GG) (st : S0) (x y z : Nat) (hx : x ≤ 31) (hy : y ≤ 31) (hz : z ≤ 31) : C0I g yX0_wonLast cX0_wonLast 5 .boolean 0 [.int (nI x), .int (nI y), .int (nI z)] st (fun r u => u = st ∧ r = nI (bn (lastB x y z))) := by
  refine CtI.ofz RX0 [some (.ref (go g)), some (.int (nI x)), some (.int (nI y)), some (.int (nI z)), none] (by decide) rfl (by intro w hw; simp at hw; rcases hw with rfl | rfl | rfl | rfl <;> rfl) (Nat.le_of_ble_eq_true rfl) rfl ?_
  intro F Q E hR
  refine z_ild1 E dX0_wonLast_0 ?_
  refine z_ic2 E dX0_wonLast_1 ?_
  have J20 : ∀ (v : Nat), ((v = 1 ∧ x < 2 ∧ y < 2 ∧ z < 2) ∨ (v = 0 ∧ ¬ (x < 2 ∧ y < 2 ∧ z < 2))) → Z0 g F Q 5 st 20 [some (.ref (go g)), some (.int (nI x)), some (.int (nI y)), some (.int (nI z)), none] [.int (nI v)] := by
    intro v hv
    refine z_ist4 E dX0_wonLast_20 ?_
    refine z_ild4 E dX0_wonLast_22 ?_
    refine z_ild1 E dX0_wonLast_24 ?_
    refine z_ild2 E dX0_wonLast_25 ?_
    refine z_ixor E (by omega) (by omega) dX0_wonLast_26 ?_
    refine z_ild3 E dX0_wonLast_27 ?_
    refine z_ixor E (Nat.lt_of_lt_of_le (Nat.xor_lt_two_pow (n := 6) (show x < 64 by omega) (show y < 64 by omega)) (by decide)) (by omega) dX0_wonLast_28 ?_
    have J37 : ∀ (w : Nat), ((w = 1 ∧ x ^^^ y ^^^ z = 0) ∨ (w = 0 ∧ ¬ (x ^^^ y ^^^ z = 0))) → Z0 g F Q 5 st 37 [some (.ref (go g)), some (.int (nI x)), some (.int (nI y)), some (.int (nI z)), some (.int (nI v))] [.int (nI w), .int (nI v)] := by
      intro w hw
      refine z_icmp_ne E (by omega) (by omega) 44 dX0_wonLast_37 (by decide) (fun c37 => ?_) (fun c37 => ?_)
      · refine z_ic0 E dX0_wonLast_44 ?_
        exact hR dX0_wonLast_45 (by decide) ⟨rfl, pF (lastB_f hv hw c37)⟩
      · refine z_ic1 E dX0_wonLast_40 ?_
        refine z_goto E 45 dX0_wonLast_41 (by decide) ?_
        exact hR dX0_wonLast_45 (by decide) ⟨rfl, pT (lastB_t hv hw c37)⟩
    refine z_if_ne E (Nat.lt_of_lt_of_le (Nat.xor_lt_two_pow (n := 6) (Nat.xor_lt_two_pow (n := 6) (show x < 64 by omega) (show y < 64 by omega)) (show z < 64 by omega)) (by decide)) 36 dX0_wonLast_29 (by decide) (fun c29 => ?_) (fun c29 => ?_)
    · refine z_ic0 E dX0_wonLast_36 ?_
      exact J37 _ (by omega)
    · refine z_ic1 E dX0_wonLast_32 ?_
      refine z_goto E 37 dX0_wonLast_33 (by decide) ?_
      exact J37 _ (by omega)
  refine z_icmp_ge E (by omega) (by omega) 19 dX0_wonLast_2 (by decide) (fun c2 => ?_) (fun c2 => ?_)
  · refine z_ic0 E dX0_wonLast_19 ?_
    exact J20 _ (by omega)
  · refine z_ild2 E dX0_wonLast_5 ?_
    refine z_ic2 E dX0_wonLast_6 ?_
    refine z_icmp_ge E (by omega) (by omega) 19 dX0_wonLast_7 (by decide) (fun c7 => ?_) (fun c7 => ?_)
    · refine z_ic0 E dX0_wonLast_19 ?_
      exact J20 _ (by omega)
    · refine z_ild3 E dX0_wonLast_10 ?_
      refine z_ic2 E dX0_wonLast_11 ?_
      refine z_icmp_ge E (by omega) (by omega) 19 dX0_wonLast_12 (by decide) (fun c12 => ?_) (fun c12 => ?_)
      · refine z_ic0 E dX0_wonLast_19 ?_
        exact J20 _ (by omega)
      · refine z_ic1 E dX0_wonLast_15 ?_
        refine z_goto E 20 dX0_wonLast_16 (by decide) ?_
        exact J20 _ (by omega)
set_option maxHeartbeats 4000000 in
set_option maxRecDepth 100000 in
theorem m0_isWon (g : GG) (st : S0) (q x y z : Nat) (hq : q ≤ 7) (hx : x ≤ 31) (hy : y ≤ 31) (hz : z ≤ 31) (h4 : q = 4 → x ≤ 15 ∧ y ≤ 15) : C0I g yX0_isWon cX0_isWon 5 .boolean 2 [.int (nI q), .int (nI x), .int (nI y), .int (nI z)] st (fun r u => u = st ∧ r = nI (bn (wonB q x y z))) := by
  refine CtI.ofz RX0 [some (.ref (go g)), some (.int (nI q)), some (.int (nI x)), some (.int (nI y)), some (.int (nI z))] (by decide) rfl (by intro w hw; simp at hw; rcases hw with rfl | rfl | rfl | rfl | rfl <;> rfl) (Nat.le_of_ble_eq_true rfl) rfl ?_
  intro F Q E hR
  refine z_ild1 E dX0_isWon_0 ?_
  refine z_if_ne E (by omega) 19 dX0_isWon_1 (by decide) (fun c1 => ?_) (fun c1 => ?_)
  · refine z_ild1 E dX0_isWon_19 ?_
    refine z_ic1 E dX0_isWon_20 ?_
    refine z_icmp_ne E (by omega) (by omega) 33 dX0_isWon_21 (by decide) (fun c21 => ?_) (fun c21 => ?_)
    · refine z_ild1 E dX0_isWon_33 ?_
      refine z_ic2 E dX0_isWon_34 ?_
      refine z_icmp_ne E (by omega) (by omega) 55 dX0_isWon_35 (by decide) (fun c35 => ?_) (fun c35 => ?_)
      · refine z_ild1 E dX0_isWon_55 ?_
        refine z_ic3 E dX0_isWon_56 ?_
        refine z_icmp_ne E (by omega) (by omega) 72 dX0_isWon_57 (by decide) (fun c57 => ?_) (fun c57 => ?_)
        · refine z_ild1 E dX0_isWon_72 ?_
          refine z_ic4 E dX0_isWon_73 ?_
          refine z_icmp_ne E (by omega) (by omega) 84 dX0_isWon_74 (by decide) (fun c74 => ?_) (fun c74 => ?_)
          · refine z_ild1 E dX0_isWon_84 ?_
            refine z_ic5 E dX0_isWon_85 ?_
            refine z_icmp_ne E (by omega) (by omega) 96 dX0_isWon_86 (by decide) (fun c86 => ?_) (fun c86 => ?_)
            · refine z_ild2 E dX0_isWon_96 ?_
              refine z_ild3 E dX0_isWon_97 ?_
              refine z_ixor E (by omega) (by omega) dX0_isWon_98 ?_
              refine z_ild4 E dX0_isWon_99 ?_
              refine z_ixor E (Nat.lt_of_lt_of_le (Nat.xor_lt_two_pow (n := 6) (show x < 64 by omega) (show y < 64 by omega)) (by decide)) (by omega) dX0_isWon_101 ?_
              refine z_ic3 E dX0_isWon_102 ?_
              refine z_iand E (Nat.lt_of_lt_of_le (Nat.xor_lt_two_pow (n := 6) (Nat.xor_lt_two_pow (n := 6) (show x < 64 by omega) (show y < 64 by omega)) (show z < 64 by omega)) (by decide)) (by omega) dX0_isWon_103 ?_
              refine z_if_eq E (Nat.lt_of_le_of_lt Nat.and_le_right (show 3 < 2147483648 by decide)) 111 dX0_isWon_104 (by decide) (fun c104 => ?_) (fun c104 => ?_)
              · refine z_ic0 E dX0_isWon_111 ?_
                exact hR dX0_isWon_112 (by decide) ⟨rfl, pF (by rw [wonB_7 (by omega)]; exact decide_eq_false (fun h => h c104))⟩
              · refine z_ic1 E dX0_isWon_107 ?_
                refine z_goto E 112 dX0_isWon_108 (by decide) ?_
                exact hR dX0_isWon_112 (by decide) ⟨rfl, pT (by rw [wonB_7 (by omega)]; exact decide_eq_true c104)⟩
            · refine z_ald0 E dX0_isWon_89 ?_
              refine z_ild2 E dX0_isWon_90 ?_
              refine z_ild3 E dX0_isWon_91 ?_
              refine z0_c_wonRatio E dX0_isWon_92 (by decide) (Nat.le_of_ble_eq_true rfl) (m0_wonRatio g _ x y hx hy) (fun r92 u92 h92 => ?_)
              obtain ⟨rfl, rfl⟩ := h92
              exact hR dX0_isWon_95 (bn_le _) ⟨rfl, by rw [wonB_5 (by omega)]⟩
          · refine z_ald0 E dX0_isWon_77 ?_
            refine z_ild2 E dX0_isWon_78 ?_
            refine z_ild3 E dX0_isWon_79 ?_
            refine z0_c_wonGolden E dX0_isWon_80 (by decide) (Nat.le_of_ble_eq_true rfl) (m0_wonGolden g _ x y (h4 (by omega)).1 (h4 (by omega)).2) (fun r80 u80 h80 => ?_)
            obtain ⟨rfl, rfl⟩ := h80
            exact hR dX0_isWon_83 (bn_le _) ⟨rfl, by rw [wonB_4 (by omega)]⟩
        · refine z_ild2 E dX0_isWon_60 ?_
          refine z_ild4 E dX0_isWon_61 ?_
          refine z_icmp_eq E (by omega) (by omega) 70 dX0_isWon_63 (by decide) (fun c63 => ?_) (fun c63 => ?_)
          · refine z_ic0 E dX0_isWon_70 ?_
            exact hR dX0_isWon_71 (by decide) ⟨rfl, pF (by rw [wonB_3 (by omega)]; exact decide_eq_false (by omega))⟩
          · refine z_ic1 E dX0_isWon_66 ?_
            refine z_goto E 71 dX0_isWon_67 (by decide) ?_
            exact hR dX0_isWon_71 (by decide) ⟨rfl, pT (by rw [wonB_3 (by omega)]; exact decide_eq_true (by omega))⟩
      · refine z_ild2 E dX0_isWon_38 ?_
        refine z_ild3 E dX0_isWon_39 ?_
        refine z_icmp_ne E (by omega) (by omega) 49 dX0_isWon_40 (by decide) (fun c40 => ?_) (fun c40 => ?_)
        · refine z_ic1 E dX0_isWon_49 ?_
          refine z_goto E 54 dX0_isWon_50 (by decide) ?_
          exact hR dX0_isWon_54 (by decide) ⟨rfl, pT (by rw [wonB_2 (by omega)]; exact decide_eq_true (by omega))⟩
        · refine z_ild3 E dX0_isWon_43 ?_
          refine z_ild4 E dX0_isWon_44 ?_
          refine z_icmp_eq E (by omega) (by omega) 53 dX0_isWon_46 (by decide) (fun c46 => ?_) (fun c46 => ?_)
          · refine z_ic0 E dX0_isWon_53 ?_
            exact hR dX0_isWon_54 (by decide) ⟨rfl, pF (by rw [wonB_2 (by omega)]; exact decide_eq_false (by omega))⟩
          · refine z_ic1 E dX0_isWon_49 ?_
            refine z_goto E 54 dX0_isWon_50 (by decide) ?_
            exact hR dX0_isWon_54 (by decide) ⟨rfl, pT (by rw [wonB_2 (by omega)]; exact decide_eq_true (by omega))⟩
    · refine z_ald0 E dX0_isWon_24 ?_
      refine z_ild2 E dX0_isWon_25 ?_
      refine z_ild3 E dX0_isWon_26 ?_
      refine z_ild4 E dX0_isWon_27 ?_
      refine z0_c_wonLast E dX0_isWon_29 (by decide) (Nat.le_of_ble_eq_true rfl) (m0_wonLast g _ x y z hx hy hz) (fun r29 u29 h29 => ?_)
      obtain ⟨rfl, rfl⟩ := h29
      exact hR dX0_isWon_32 (bn_le _) ⟨rfl, by rw [wonB_1 (by omega)]⟩
  · refine z_ild2 E dX0_isWon_4 ?_
    refine z_ild3 E dX0_isWon_5 ?_
    refine z_ixor E (by omega) (by omega) dX0_isWon_6 ?_
    refine z_ild4 E dX0_isWon_7 ?_
    refine z_ixor E (Nat.lt_of_lt_of_le (Nat.xor_lt_two_pow (n := 6) (show x < 64 by omega) (show y < 64 by omega)) (by decide)) (by omega) dX0_isWon_9 ?_
    refine z_if_eq E (Nat.lt_of_lt_of_le (Nat.xor_lt_two_pow (n := 6) (Nat.xor_lt_two_pow (n := 6) (show x < 64 by omega) (show y < 64 by omega)) (show z < 64 by omega)) (by decide)) 17 dX0_isWon_10 (by decide) (fun c10 => ?_) (fun c10 => ?_)
    · refine z_ic0 E dX0_isWon_17 ?_
      exact hR dX0_isWon_18 (by decide) ⟨rfl, pF (by rw [wonB_0 (by omega)]; exact decide_eq_false (fun h => h c10))⟩
    · refine z_ic1 E dX0_isWon_13 ?_
      refine z_goto E 18 dX0_isWon_14 (by decide) ?_
      exact hR dX0_isWon_18 (by decide) ⟨rfl, pT (by rw [wonB_0 (by omega)]; exact decide_eq_true c10)⟩
def sgl (a b : Nat) : Nat := if a + 16 * b > 60 then 60 else a + 16 * b
set_option maxHeartbeats 4000000 in
set_option maxRecDepth 100000 in
theorem m0_single (g : GG) (a b c n : Nat) (mv : Nat → Nat) (ha : a ≤ 15) (hb : b ≤ 15) : C0I g yX0_single cX0_single 2 .int 0 [] (a, b, c, n, mv) (fun r u => u = (a, b, c, n, mv) ∧ r = nI (sgl a b)) := by
  refine CtI.of RX0 [some (.ref (go g)), none] (by decide) rfl (by intro w hw; simp at hw; rcases hw with rfl <;> rfl) (Nat.le_of_ble_eq_true rfl) rfl ?_
  intro F Q E hR
  refine z0_H0 E dX0_single_0 dX0_single_1 dX0_single_4 dX0_single_5 ?_
  refine z_bipush E 16 (by decide) dX0_single_6 ?_
  refine z0_H1 E dX0_single_8 dX0_single_9 dX0_single_12 dX0_single_13 ?_
  refine z_imul E dX0_single_14 ?_
  refine z_iadd E dX0_single_15 ?_
  refine z_ist1 E dX0_single_16 ?_
  refine z_ild1 E dX0_single_17 ?_
  refine z_bipush E 60 (by decide) dX0_single_18 ?_
  refine z_icmp_le E (by omega) (by omega) 28 dX0_single_20 (by decide) (fun c20 => ?_) (fun c20 => ?_)
  · refine z_ild1 E dX0_single_28 ?_
    exact hR dX0_single_29 ⟨rfl, by rw [sgl, if_neg (by omega)]⟩
  · refine z_bipush E 60 (by decide) dX0_single_23 ?_
    refine z_goto E 29 dX0_single_25 (by decide) ?_
    exact hR dX0_single_29 ⟨rfl, by rw [sgl, if_pos (by omega)]⟩
theorem lpv_bd61 : ∀ n, n < 61 → lpv n ≤ 60 := by decide +kernel
theorem lpv_bd (n : Nat) : lpv n ≤ 60 := by
  rcases Nat.lt_or_ge n 61 with h | h
  · exact lpv_bd61 n h
  · have : lpv n = 0 := by
      unfold lpv
      rw [List.getD_eq_getElem?_getD, List.getElem?_eq_none (by simpa using h)]; rfl
    omega
set_option maxHeartbeats 4000000 in
set_option maxRecDepth 100000 in
theorem m0_wonWith (g : GG) (st : S0) (x y : Nat) (hx : x ≤ 60) (hy : y ≤ 120) : C0I g yX0_wonWith cX0_wonWith 4 .boolean 1 [.int (nI x), .int (nI y)] st (fun r u => u = st ∧ r = nI (bn (wwB x y))) := by
  refine CtI.ofz RX0 [some (.ref (go g)), some (.int (nI x)), some (.int (nI y)), none] (by decide) rfl (by intro w hw; simp at hw; rcases hw with rfl | rfl | rfl <;> rfl) (Nat.le_of_ble_eq_true rfl) rfl ?_
  intro F Q E hR
  refine z_ald0 E dX0_wonWith_0 ?_
  refine z_ild1 E dX0_wonWith_1 ?_
  refine z0_c_leastPart E dX0_wonWith_2 (by decide) (Nat.le_of_ble_eq_true rfl) (m0_leastPart g _ x hx) (fun r2 u2 h2 => ?_)
  obtain ⟨rfl, rfl⟩ := h2
  refine z_ist3 E dX0_wonWith_5 ?_
  refine z_ild1 E dX0_wonWith_6 ?_
  refine z_if_le E (by omega) 19 dX0_wonWith_7 (by decide) (fun c7 => ?_) (fun c7 => ?_)
  · refine z_ic0 E dX0_wonWith_19 ?_
    exact hR dX0_wonWith_20 (by decide) ⟨rfl, pF (by simp only [wwB]; exact decide_eq_false (by omega))⟩
  · refine z_ild3 E dX0_wonWith_10 ?_
    refine z_ild2 E dX0_wonWith_11 ?_
    refine z_icmp_gt E (show lpv x < 2147483648 by have := lpv_bd x; omega) (by omega) 19 dX0_wonWith_12 (by decide) (fun c12 => ?_) (fun c12 => ?_)
    · refine z_ic0 E dX0_wonWith_19 ?_
      exact hR dX0_wonWith_20 (by decide) ⟨rfl, pF (by simp only [wwB]; exact decide_eq_false (by omega))⟩
    · refine z_ic1 E dX0_wonWith_15 ?_
      refine z_goto E 20 dX0_wonWith_16 (by decide) ?_
      exact hR dX0_wonWith_20 (by decide) ⟨rfl, pT (by simp only [wwB]; exact decide_eq_true (by omega))⟩
/-- who wins, all games -/
def wonF (q a b c : Nat) : Bool := if q = 6 then wwB (sgl a b) c else wonB q a b c
theorem sgl_le (a b : Nat) : sgl a b ≤ 60 := by unfold sgl; split <;> omega
set_option maxHeartbeats 4000000 in
set_option maxRecDepth 100000 in
theorem m0_won (g : GG) (a b c n : Nat) (mv : Nat → Nat) (ha : a ≤ 15) (hb : b ≤ 15) (hc : c ≤ 15) (x : Int32) : C0I g yX0_won cX0_won 3 .int 3 [.int x] (a, b, c, n, mv) (fun r u => (Bad 7 x ∧ u = (a, b, c, n, mv) ∧ r = -1) ∨ ∃ q, q ≤ 7 ∧ x = nI q ∧ u = (a, b, c, n, mv) ∧ r = nI (bn (wonF q a b c))) := by
  refine CtI.of RX0 [some (.ref (go g)), some (.int x), none] (by decide) rfl (by intro w hw; simp at hw; rcases hw with rfl | rfl <;> rfl) (Nat.le_of_ble_eq_true rfl) rfl ?_
  intro F Q E hR
  refine z_ald0 E dX0_won_0 ?_
  refine z_ild1 E dX0_won_1 ?_
  refine z0_c_badGame E dX0_won_2 (by decide) (Nat.le_of_ble_eq_true rfl) (m0_badGame g _ _) (fun r2 u2 h2 => ?_)
  obtain ⟨rfl, q2, hq2, rfl, hb2, hg2⟩ := h2
  refine z_if_eq E (show q2 < 2147483648 by omega) 10 dX0_won_5 (by decide) (fun c5 => ?_) (fun c5 => ?_)
  · obtain ⟨q, hq, rfl⟩ := hg2 c5
    refine z_ild1 E dX0_won_10 ?_
    have J56 : ∀ (w : Bool), (w = wonF q a b c) → Z0 g F Q 3 (a, b, c, n, mv) 56 [some (.ref (go g)), some (.int (nI q)), none] [.int (nI (bn w))] := by
      intro w hw
      refine z_ist2 E dX0_won_56 ?_
      refine z_ild2 E dX0_won_57 ?_
      refine z_if_eq E (by have := bn_le w; omega) 65 dX0_won_58 (by decide) (fun c58 => ?_) (fun c58 => ?_)
      · refine z_ic0 E dX0_won_65 ?_
        exact hR dX0_won_66 (Or.inr ⟨q, hq, rfl, rfl, pF (by rw [← hw]; exact bn_0 c58)⟩)
      · refine z_ic1 E dX0_won_61 ?_
        refine z_goto E 66 dX0_won_62 (by decide) ?_
        exact hR dX0_won_66 (Or.inr ⟨q, hq, rfl, rfl, pT (by rw [← hw]; exact bn_1 c58)⟩)
    refine z_bipush E 6 (by decide) dX0_won_11 ?_
    refine z_icmp_ne E (by omega) (by omega) 33 dX0_won_13 (by decide) (fun c13 => ?_) (fun c13 => ?_)
    · refine z_ald0 E dX0_won_33 ?_
      refine z_ild1 E dX0_won_34 ?_
      refine z0_H0 E dX0_won_35 dX0_won_36 dX0_won_39 dX0_won_40 ?_
      refine z0_H1 E dX0_won_41 dX0_won_42 dX0_won_45 dX0_won_46 ?_
      refine z0_H2 E dX0_won_47 dX0_won_48 dX0_won_51 dX0_won_52 ?_
      refine z0_c_isWon E dX0_won_53 (by decide) (Nat.le_of_ble_eq_true rfl) (m0_isWon g _ q a b c hq (by omega) (by omega) (by omega) (fun _ => ⟨ha, hb⟩)) (fun r53 u53 h53 => ?_)
      obtain ⟨rfl, rfl⟩ := h53
      exact J56 _ (by rw [wonF, if_neg (by omega)])
    · refine z_ald0 E dX0_won_16 ?_
      refine z_ald0 E dX0_won_17 ?_
      refine z0_c_single E dX0_won_18 (by decide) (Nat.le_of_ble_eq_true rfl) (m0_single g a b c n mv ha hb) (fun r18 u18 h18 => ?_)
      obtain ⟨rfl, rfl⟩ := h18
      refine z0_H2 E dX0_won_21 dX0_won_22 dX0_won_25 dX0_won_26 ?_
      refine z0_c_wonWith E dX0_won_27 (by decide) (Nat.le_of_ble_eq_true rfl) (m0_wonWith g _ (sgl a b) c (sgl_le a b) (by omega)) (fun r27 u27 h27 => ?_)
      obtain ⟨rfl, rfl⟩ := h27
      refine z_goto E 56 dX0_won_30 (by decide) ?_
      exact J56 _ (by rw [wonF, if_pos (by omega)])
  · refine z_icm1 E dX0_won_8 ?_
    exact hR dX0_won_9 (Or.inl ⟨hb2 c5, rfl, rfl⟩)
end
section
/-! moves as relations; what the component's loops gather -/
theorem hN_cases (a b c : Nat) {i : Nat} (h : i < 3) : (i = 0 ∧ hN a b c i = a) ∨ (i = 1 ∧ hN a b c i = b) ∨ (i = 2 ∧ hN a b c i = c) := by
  match i, h with
  | 0, _ => exact Or.inl ⟨rfl, rfl⟩
  | 1, _ => exact Or.inr (Or.inl ⟨rfl, rfl⟩)
  | 2, _ => exact Or.inr (Or.inr ⟨rfl, rfl⟩)
/-- from one heap, up to the k-th try -/
def oneK (q m k a b c x y z : Nat) : Prop := (x < a ∧ a - x ≤ m ∧ y = b ∧ z = c ∧ 3 * (a - x - 1) < k) ∨ (x = a ∧ y < b ∧ b - y ≤ m ∧ z = c ∧ 3 * (b - y - 1) + 1 < k) ∨ (q ≠ 4 ∧ x = a ∧ y = b ∧ z < c ∧ c - z ≤ m ∧ 3 * (c - z - 1) + 2 < k)
def oneF (q m a b c x y z : Nat) : Prop := (x < a ∧ a - x ≤ m ∧ y = b ∧ z = c) ∨ (x = a ∧ y < b ∧ b - y ≤ m ∧ z = c) ∨ (q ≠ 4 ∧ x = a ∧ y = b ∧ z < c ∧ c - z ≤ m)
def dsK (k1 k2 k3 a b c x y z : Nat) : Prop := (x < a ∧ a - x < k1 ∧ y = b ∧ z = c) ∨ (y < b ∧ b - y < k2 ∧ x = a + (b - y) ∧ z = c) ∨ (z < c ∧ c - z < k3 ∧ y = b + (c - z) ∧ x = a)
def eqK (k a b c x y z : Nat) : Prop := x < a ∧ y < b ∧ a - x = b - y ∧ a - x < k ∧ z = c
def mulK (k1 k2 a b c x y z : Nat) : Prop := 0 < a ∧ 0 < b ∧ z = c ∧ ((y = b ∧ ∃ t, 1 ≤ t ∧ t < k1 ∧ t * b ≤ a ∧ x = a - t * b) ∨ (x = a ∧ ∃ t, 1 ≤ t ∧ t < k2 ∧ t * a ≤ b ∧ y = b - t * a))
def mulM (a b c x y z : Nat) : Prop := 0 < a ∧ 0 < b ∧ z = c ∧ ((y = b ∧ ∃ t, 1 ≤ t ∧ t * b ≤ a ∧ x = a - t * b) ∨ (x = a ∧ ∃ t, 1 ≤ t ∧ t * a ≤ b ∧ y = b - t * a))
theorem ex_step {P : Nat → Prop} {k : Nat} (hk : 1 ≤ k) : (∃ t, 1 ≤ t ∧ t < k + 1 ∧ P t) ↔ (∃ t, 1 ≤ t ∧ t < k ∧ P t) ∨ P k := by
  constructor
  · rintro ⟨t, h1, h2, h3⟩
    rcases Nat.lt_or_ge t k with q | q
    · exact Or.inl ⟨t, h1, q, h3⟩
    · have : t = k := by omega
      subst this; exact Or.inr h3
  · rintro (⟨t, h1, h2, h3⟩ | h)
    · exact ⟨t, h1, by omega, h3⟩
    · exact ⟨k, hk, by omega, h⟩
theorem mulK_1 {k1 k2 a b c x y z : Nat} (hk : 1 ≤ k1) (ha : 0 < a) (hb : 0 < b) : mulK (k1 + 1) k2 a b c x y z ↔ mulK k1 k2 a b c x y z ∨ (k1 * b ≤ a ∧ x = a - k1 * b ∧ y = b ∧ z = c) := by
  unfold mulK
  rw [ex_step (P := fun t => t * b ≤ a ∧ x = a - t * b) hk]
  constructor
  · rintro ⟨h1, h2, h3, ⟨h4, h5 | h5⟩ | h4⟩
    · exact Or.inl ⟨h1, h2, h3, Or.inl ⟨h4, h5⟩⟩
    · exact Or.inr ⟨h5.1, h5.2, h4, h3⟩
    · exact Or.inl ⟨h1, h2, h3, Or.inr h4⟩
  · rintro (⟨h1, h2, h3, ⟨h4, h5⟩ | h4⟩ | ⟨h1, h2, h3, h4⟩)
    · exact ⟨h1, h2, h3, Or.inl ⟨h4, Or.inl h5⟩⟩
    · exact ⟨h1, h2, h3, Or.inr h4⟩
    · exact ⟨ha, hb, h4, Or.inl ⟨h3, Or.inr ⟨h1, h2⟩⟩⟩
theorem mulK_2 {k1 k2 a b c x y z : Nat} (hk : 1 ≤ k2) (ha : 0 < a) (hb : 0 < b) : mulK k1 (k2 + 1) a b c x y z ↔ mulK k1 k2 a b c x y z ∨ (k2 * a ≤ b ∧ x = a ∧ y = b - k2 * a ∧ z = c) := by
  unfold mulK
  rw [ex_step (P := fun t => t * a ≤ b ∧ y = b - t * a) hk]
  constructor
  · rintro ⟨h1, h2, h3, h4 | ⟨h4, h5 | h5⟩⟩
    · exact Or.inl ⟨h1, h2, h3, Or.inl h4⟩
    · exact Or.inl ⟨h1, h2, h3, Or.inr ⟨h4, h5⟩⟩
    · exact Or.inr ⟨h5.1, h4, h5.2, h3⟩
  · rintro (⟨h1, h2, h3, h4 | ⟨h4, h5⟩⟩ | ⟨h1, h2, h3, h4⟩)
    · exact ⟨h1, h2, h3, Or.inl h4⟩
    · exact ⟨h1, h2, h3, Or.inr ⟨h4, Or.inl h5⟩⟩
    · exact ⟨ha, hb, h4, Or.inr ⟨h2, Or.inr ⟨h1, h3⟩⟩⟩
theorem mulK_0 {a b c x y z : Nat} : ¬ mulK 1 1 a b c x y z := by
  rintro ⟨_, _, _, ⟨_, t, h1, h2, _⟩ | ⟨_, t, h1, h2, _⟩⟩ <;> omega
theorem mulK_end {k a b c x y z : Nat} (hk : 15 < k) (ha : a ≤ 15) (hb : b ≤ 15) : mulK k k a b c x y z ↔ mulM a b c x y z := by
  constructor
  · rintro ⟨h1, h2, h3, ⟨h4, t, h5, _, h6⟩ | ⟨h4, t, h5, _, h6⟩⟩
    · exact ⟨h1, h2, h3, Or.inl ⟨h4, t, h5, h6⟩⟩
    · exact ⟨h1, h2, h3, Or.inr ⟨h4, t, h5, h6⟩⟩
  · rintro ⟨h1, h2, h3, ⟨h4, t, h5, h6⟩ | ⟨h4, t, h5, h6⟩⟩
    · exact ⟨h1, h2, h3, Or.inl ⟨h4, t, h5, by have := Nat.le_mul_of_pos_right t h2; omega, h6⟩⟩
    · exact ⟨h1, h2, h3, Or.inr ⟨h4, t, h5, by have := Nat.le_mul_of_pos_right t h1; omega, h6⟩⟩
theorem mulM_0 {a b c x y z : Nat} (h : a = 0 ∨ b = 0) : ¬ mulM a b c x y z := by
  rintro ⟨h1, h2, _⟩; omega
theorem tw_step {p u v k : Nat} (h : u < p) : v * p + u < k + 1 ↔ v * p + u < k ∨ (u = k % p ∧ v = k / p) := by
  constructor
  · intro h1
    rcases Nat.lt_or_ge (v * p + u) k with q | q
    · exact Or.inl q
    · have e : k = u + p * v := by rw [Nat.mul_comm p v]; omega
      right
      rw [e, Nat.add_mul_mod_self_left, Nat.mod_eq_of_lt h, Nat.add_mul_div_left _ _ (by omega : 0 < p), Nat.div_eq_of_lt h]
      omega
  · rintro (h1 | ⟨h1, h2⟩)
    · omega
    · have := Nat.div_add_mod k p
      rw [← h1, ← h2, Nat.mul_comm] at this
      omega
theorem tw_end {p r u v k : Nat} (h : u < p) (h2 : v < r) (hk : p * r ≤ k) : v * p + u < k := by
  have : (v + 1) * p ≤ r * p := Nat.mul_le_mul_right p h2
  rw [Nat.add_mul, Nat.one_mul, Nat.mul_comm r p] at this
  omega
/-- the moves of a game other than 6 -/
def twoM (a b c x y z : Nat) : Prop := (x < a ∧ y < b ∧ z = c) ∨ (x < a ∧ y = b ∧ z < c) ∨ (x = a ∧ y < b ∧ z < c)
def pushM (a b c x y z : Nat) : Prop := (x < a ∧ y = b ∧ z = c) ∨ (y < b ∧ x = a + (b - y) ∧ z = c) ∨ (z < c ∧ y = b + (c - z) ∧ x = a)
def eqM (a b c x y z : Nat) : Prop := (x < a ∧ y = b ∧ z = c) ∨ (x = a ∧ y < b ∧ z = c) ∨ (x < a ∧ y < b ∧ a - x = b - y ∧ z = c)
def oneM (m a b c x y z : Nat) : Prop := (x < a ∧ a - x ≤ m ∧ y = b ∧ z = c) ∨ (x = a ∧ y < b ∧ b - y ≤ m ∧ z = c) ∨ (x = a ∧ y = b ∧ z < c ∧ c - z ≤ m)
def Mv (q a b c x y z : Nat) : Prop :=
  if q = 2 then oneM 15 a b c x y z ∨ twoM a b c x y z else if q = 3 then pushM a b c x y z else if q = 4 then eqM a b c x y z else if q = 5 then mulM a b c x y z else if q = 7 then oneM 3 a b c x y z else oneM 15 a b c x y z
theorem Mv_2 {q a b c x y z : Nat} (h : q = 2) : Mv q a b c x y z ↔ oneM 15 a b c x y z ∨ twoM a b c x y z := by subst h; exact Iff.rfl
theorem Mv_3 {q a b c x y z : Nat} (h : q = 3) : Mv q a b c x y z ↔ pushM a b c x y z := by subst h; exact Iff.rfl
theorem Mv_4 {q a b c x y z : Nat} (h : q = 4) : Mv q a b c x y z ↔ eqM a b c x y z := by subst h; exact Iff.rfl
theorem Mv_5 {q a b c x y z : Nat} (h : q = 5) : Mv q a b c x y z ↔ mulM a b c x y z := by subst h; exact Iff.rfl
theorem Mv_7 {q a b c x y z : Nat} (h : q = 7) : Mv q a b c x y z ↔ oneM 3 a b c x y z := by subst h; exact Iff.rfl
theorem Mv_o {q a b c x y z : Nat} (h : q = 0 ∨ q = 1 ∨ q = 6) : Mv q a b c x y z ↔ oneM 15 a b c x y z := by rcases h with rfl | rfl | rfl <;> exact Iff.rfl
theorem Mv_le {q a b c x y z : Nat} (hq : q ≠ 3) (h : Mv q a b c x y z) : x ≤ a ∧ y ≤ b ∧ z ≤ c := by
  unfold Mv at h
  split at h
  · unfold oneM twoM at h; omega
  · try rw [if_neg hq] at h
    split at h
    · unfold eqM at h; omega
    · split at h
      · obtain ⟨h1, h2, h3, ⟨h4, t, h5, h6, h7⟩ | ⟨h4, t, h5, h6, h7⟩⟩ := h <;> omega
      · split at h
        · unfold oneM at h; omega
        · unfold oneM at h; omega
/-- which numbers the moves have -/
def PM (al q a b c v : Nat) : Prop :=
  if q = 6 then 1 ≤ v ∧ v ≤ sgl a b ∧ v ≤ c ∧ (al = 1 ∨ wwB (sgl a b - v) (2 * v) = false) else Mv q a b c (v % 32) (v / 32 % 32) (v / 1024) ∧ Kp al q (v % 32) (v / 32 % 32) (v / 1024)
theorem setK_PM {al q a b c n : Nat} {f : Nat → Nat} (hq : q ≠ 6) (h : SetK n f (Mv q a b c) (Kp al q)) : ∀ v, In n f v ↔ PM al q a b c v := by
  intro v
  have e : v % 32 + 32 * (v / 32 % 32) + 1024 * (v / 1024) = v := by omega
  have h2 := h.2 (v % 32) (v / 32 % 32) (v / 1024) (by omega) (by omega)
  rw [e] at h2
  unfold PM
  rw [if_neg hq]
  exact h2
end
section
set_option maxHeartbeats 4000000 in
set_option maxRecDepth 100000 in
theorem m0_keep (g : GG) (a b c n : Nat) (mv : Nat → Nat) (x : Nat) (hs : Srt n mv) (hx : x < 65536) (hn : n < 800) : C0V g yX0_keep cX0_keep 4 0 [.int (nI x)] (a, b, c, n, mv) (fun u => ∃ (n' : Nat) (f' : Nat → Nat), u = (a, b, c, n', f') ∧ Ins n mv x n' f') := by
  refine CtV.of RX0 [some (.ref (go g)), some (.int (nI x)), none, none] (by decide) rfl (by intro w hw; simp at hw; rcases hw with rfl | rfl <;> rfl) (Nat.le_of_ble_eq_true rfl) rfl ?_
  intro F Q E hR
  refine z_ald0 E dX0_keep_0 ?_
  refine z0_get_found E dX0_keep_1 ?_
  refine z_ist2 E dX0_keep_4 ?_
  have L5 : ∀ (fuel : Nat) (i : Nat), (i ≤ n) → (∀ k, i ≤ k → k < n → x < mv k) → (i < fuel) → Z0 g F Q 4 (a, b, c, n, mv) 5 [some (.ref (go g)), some (.int (nI x)), some (.int (nI i)), none] [] := by
    intro fuel
    induction fuel with
    | zero =>
      intro i h1 h2 h3
      exfalso; omega
    | succ fuel ih5 =>
      intro i h1 h2 h3
      have J27 : (i = 0 ∨ mv (i - 1) ≤ x) → Z0 g F Q 4 (a, b, c, n, mv) 27 [some (.ref (go g)), some (.int (nI x)), some (.int (nI i)), none] [] := by
        intro h4
        refine z_ild2 E dX0_keep_27 ?_
        have J43 : (i = 0 ∨ mv (i - 1) < x) → Z0 g F Q 4 (a, b, c, n, mv) 43 [some (.ref (go g)), some (.int (nI x)), some (.int (nI i)), none] [] := by
          intro h5
          have hlo : ∀ k, k < i → mv k < x := by
            intro k hk
            rcases h5 with h5 | h5
            · omega
            · rcases Nat.lt_or_ge k (i - 1) with r | r
              · have := hs.1 k (i - 1) r (by omega); omega
              · have e : k = i - 1 := by omega
                rw [e]; exact h5
          refine z_ald0 E dX0_keep_43 ?_
          refine z0_get_found E dX0_keep_44 ?_
          refine z_sipush E 800 (by decide) dX0_keep_47 ?_
          refine z_icmp_ne E (by omega) (by omega) 54 dX0_keep_50 (by decide) (fun c50 => ?_) (fun c50 => ?_)
          · refine z_ald0 E dX0_keep_54 ?_
            refine z0_get_found E dX0_keep_55 ?_
            refine z_ist3 E dX0_keep_58 ?_
            have L59 : ∀ (fuel : Nat) (m : Nat) (f : Nat → Nat), (i ≤ m) → (m ≤ n) → (∀ k, k < m → f k = mv k) → (∀ k, m < k → k ≤ n → f k = mv (k - 1)) → (m < i + fuel) → Z0 g F Q 4 (a, b, c, n, f) 59 [some (.ref (go g)), some (.int (nI x)), some (.int (nI i)), some (.int (nI m))] [] := by
              intro fuel
              induction fuel with
              | zero =>
                intro m f g1 g2 e0 e1 g3
                exfalso; omega
              | succ fuel ih59 =>
                intro m f g1 g2 e0 e1 g3
                refine z_ild3 E dX0_keep_59 ?_
                refine z_ild2 E dX0_keep_60 ?_
                refine z_icmp_le E (by omega) (by omega) 84 dX0_keep_61 (by decide) (fun c61 => ?_) (fun c61 => ?_)
                · refine z_ald0 E dX0_keep_84 ?_
                  refine z0_get_moves E dX0_keep_85 ?_
                  refine z_ild2 E dX0_keep_88 ?_
                  refine z_ild1 E dX0_keep_89 ?_
                  refine z0_st_moves E (by omega) dX0_keep_90 ?_
                  refine z_ald0 E dX0_keep_91 ?_
                  refine z_dup E rfl dX0_keep_92 ?_
                  refine z0_get_found E dX0_keep_93 ?_
                  refine z_ic1 E dX0_keep_96 ?_
                  refine z_iadd E dX0_keep_97 ?_
                  refine z0_put_found E dX0_keep_98 ?_
                  have hI := ins_spec (h := upN f i x) hs hx h1 hlo h2 (fun k hk => by rw [upN_n (by omega)]; exact e0 k (by omega)) upN_s (fun k p q => by rw [upN_n (by omega)]; exact e1 k (by omega) q)
                  exact hR dX0_keep_101 ⟨n + 1, upN f i x, rfl, hI.1, Nat.le_refl _, hI.2⟩
                · refine z_ald0 E dX0_keep_64 ?_
                  refine z0_get_moves E dX0_keep_65 ?_
                  refine z_ild3 E dX0_keep_68 ?_
                  refine z_ald0 E dX0_keep_69 ?_
                  refine z0_get_moves E dX0_keep_70 ?_
                  refine z_ild3 E dX0_keep_73 ?_
                  refine z_ic1 E dX0_keep_74 ?_
                  refine z_isub E (by omega) dX0_keep_75 ?_
                  refine z0_ld_moves E (by omega) dX0_keep_76 ?_
                  refine z0_st_moves E (by omega) dX0_keep_77 ?_
                  refine z_dec3 E (by omega) dX0_keep_78 ?_
                  refine z_goto E 59 dX0_keep_81 (by decide) ?_
                  have e2 : ∀ k, m - 1 < k → k ≤ n → upN f m (f (m - 1)) k = mv (k - 1) := by
                    intro k p q
                    rcases Nat.lt_or_ge m k with r | r
                    · rw [upN_n (by omega)]; exact e1 k r q
                    · have e : k = m := by omega
                      subst e; rw [upN_s]; exact e0 (k - 1) (by omega)
                  exact ih59 (m - 1) _ (by omega) (by omega) (fun k p => by rw [upN_n (by omega)]; exact e0 k (by omega)) e2 (by omega)
            exact L59 (n + 1) n mv (by omega) (by omega) (fun _ _ => rfl) (fun k p q => by omega) (by omega)
          · exfalso; omega
        refine z_if_le E (by omega) 43 dX0_keep_28 (by decide) (fun c28 => ?_) (fun c28 => ?_)
        · exact J43 (Or.inl c28)
        · refine z_ald0 E dX0_keep_31 ?_
          refine z0_get_moves E dX0_keep_32 ?_
          refine z_ild2 E dX0_keep_35 ?_
          refine z_ic1 E dX0_keep_36 ?_
          refine z_isub E (by omega) dX0_keep_37 ?_
          refine z0_ld_moves E (by omega) dX0_keep_38 ?_
          refine z_ild1 E dX0_keep_39 ?_
          refine z_icmp_eq E (show mv (i - 1) < 2147483648 by have := hs.2 (i - 1) (by omega); omega) (by omega) 53 dX0_keep_40 (by decide) (fun c40 => ?_) (fun c40 => ?_)
          · exact hR dX0_keep_53 ⟨n, mv, rfl, hs, by omega, fun v => ⟨Or.inl, fun h => h.elim id (fun e => ⟨i - 1, by omega, by rw [e]; exact c40⟩)⟩⟩
          · exact J43 (Or.inr (by omega))
      refine z_ild2 E dX0_keep_5 ?_
      refine z_if_le E (by omega) 27 dX0_keep_6 (by decide) (fun c6 => ?_) (fun c6 => ?_)
      · exact J27 (Or.inl c6)
      · refine z_ald0 E dX0_keep_9 ?_
        refine z0_get_moves E dX0_keep_10 ?_
        refine z_ild2 E dX0_keep_13 ?_
        refine z_ic1 E dX0_keep_14 ?_
        refine z_isub E (by omega) dX0_keep_15 ?_
        refine z0_ld_moves E (by omega) dX0_keep_16 ?_
        refine z_ild1 E dX0_keep_17 ?_
        refine z_icmp_le E (show mv (i - 1) < 2147483648 by have := hs.2 (i - 1) (by omega); omega) (by omega) 27 dX0_keep_18 (by decide) (fun c18 => ?_) (fun c18 => ?_)
        · exact J27 (Or.inr c18)
        · refine z_dec2 E (by omega) dX0_keep_21 ?_
          refine z_goto E 5 dX0_keep_24 (by decide) ?_
          have h6 : ∀ k, i - 1 ≤ k → k < n → x < mv k := by
            intro k p q
            rcases Nat.lt_or_ge k i with r | r
            · have e : k = i - 1 := by omega
              rw [e]; exact c18
            · exact h2 k r q
          exact ih5 (i - 1) (by omega) h6 (by omega)
  exact L5 (n + 1) n (by omega) (fun k _ _ => by omega) (by omega)
set_option maxHeartbeats 4000000 in
set_option maxRecDepth 100000 in
theorem m0_consider (g : GG) (a b c n : Nat) (mv : Nat → Nat) (q x y z al : Nat) (R : Nat → Nat → Nat → Prop) (hq : q ≤ 7) (hx : x ≤ 31) (hy : y ≤ 31) (hz : z ≤ 31) (h4 : q = 4 → x ≤ 15 ∧ y ≤ 15) (hal : al ≤ 1) (hn : n < 800) (hK : SetK n mv R (Kp al q)) : C0V g yX0_consider cX0_consider 6 3 [.int (nI q), .int (nI x), .int (nI y), .int (nI z), .int (nI al)] (a, b, c, n, mv) (fun u => ∃ (n' : Nat) (f' : Nat → Nat), u = (a, b, c, n', f') ∧ n' ≤ n + 1 ∧ SetK n' f' (fun x' y' z' => R x' y' z' ∨ (x' = x ∧ y' = y ∧ z' = z)) (Kp al q)) := by
  refine CtV.of RX0 [some (.ref (go g)), some (.int (nI q)), some (.int (nI x)), some (.int (nI y)), some (.int (nI z)), some (.int (nI al))] (by decide) rfl (by intro w hw; simp at hw; rcases hw with rfl | rfl | rfl | rfl | rfl | rfl <;> rfl) (Nat.le_of_ble_eq_true rfl) rfl ?_
  intro F Q E hR
  refine z_ild5 E dX0_consider_0 ?_
  refine z_if_ne E (by omega) 17 dX0_consider_2 (by decide) (fun c2 => ?_) (fun c2 => ?_)
  · refine z_ald0 E dX0_consider_17 ?_
    refine z_ild2 E dX0_consider_18 ?_
    refine z_bipush E 32 (by decide) dX0_consider_19 ?_
    refine z_ild3 E dX0_consider_21 ?_
    refine z_imul E dX0_consider_22 ?_
    refine z_iadd E dX0_consider_23 ?_
    refine z_sipush E 1024 (by decide) dX0_consider_24 ?_
    refine z_ild4 E dX0_consider_27 ?_
    refine z_imul E dX0_consider_29 ?_
    refine z_iadd E dX0_consider_30 ?_
    refine z0_c_keep E dX0_consider_31 (by decide) (Nat.le_of_ble_eq_true rfl) (m0_keep g a b c n mv (x + 32 * y + 1024 * z) hK.1 (by omega) hn) (fun u31 h31 => ?_)
    obtain ⟨n', f', rfl, hI⟩ := h31
    exact hR dX0_consider_34 ⟨n', f', rfl, hI.2.1, hK.put (by omega) (by omega) hI (Or.inl (by omega))⟩
  · refine z_ald0 E dX0_consider_5 ?_
    refine z_ild1 E dX0_consider_6 ?_
    refine z_ild2 E dX0_consider_7 ?_
    refine z_ild3 E dX0_consider_8 ?_
    refine z_ild4 E dX0_consider_9 ?_
    refine z0_c_isWon E dX0_consider_11 (by decide) (Nat.le_of_ble_eq_true rfl) (m0_isWon g _ q x y z hq hx hy hz h4) (fun r11 u11 h11 => ?_)
    obtain ⟨rfl, rfl⟩ := h11
    refine z_if_ne E (by have := bn_le (wonB q x y z); omega) 34 dX0_consider_14 (by decide) (fun c14 => ?_) (fun c14 => ?_)
    · exact hR dX0_consider_34 ⟨n, mv, rfl, by omega, hK.skip (fun k => k.elim (fun e => by omega) (fun e => by rw [bn_1 c14] at e; cases e))⟩
    · refine z_ald0 E dX0_consider_17 ?_
      refine z_ild2 E dX0_consider_18 ?_
      refine z_bipush E 32 (by decide) dX0_consider_19 ?_
      refine z_ild3 E dX0_consider_21 ?_
      refine z_imul E dX0_consider_22 ?_
      refine z_iadd E dX0_consider_23 ?_
      refine z_sipush E 1024 (by decide) dX0_consider_24 ?_
      refine z_ild4 E dX0_consider_27 ?_
      refine z_imul E dX0_consider_29 ?_
      refine z_iadd E dX0_consider_30 ?_
      refine z0_c_keep E dX0_consider_31 (by decide) (Nat.le_of_ble_eq_true rfl) (m0_keep g a b c n mv (x + 32 * y + 1024 * z) hK.1 (by omega) hn) (fun u31 h31 => ?_)
      obtain ⟨n', f', rfl, hI⟩ := h31
      exact hR dX0_consider_34 ⟨n', f', rfl, hI.2.1, hK.put (by omega) (by omega) hI (Or.inr (bn_0 c14))⟩
set_option maxHeartbeats 4000000 in
set_option maxRecDepth 100000 in
theorem m0_fromOne (g : GG) (a b c n : Nat) (mv : Nat → Nat) (q m al : Nat) (R : Nat → Nat → Nat → Prop) (ha : a ≤ 15) (hb : b ≤ 15) (hc : c ≤ 15) (hq : q ≤ 7) (hm : m ≤ 15) (hal : al ≤ 1) (hn : n ≤ 700) (hK : SetK n mv R (Kp al q)) : C0V g yX0_fromOne cX0_fromOne 8 4 [.int (nI q), .int (nI m), .int (nI al)] (a, b, c, n, mv) (fun u => ∃ (n' : Nat) (f' : Nat → Nat), u = (a, b, c, n', f') ∧ n' ≤ n + 48 ∧ SetK n' f' (fun x y z => R x y z ∨ oneF q m a b c x y z) (Kp al q)) := by
  refine CtV.of RX0 [some (.ref (go g)), some (.int (nI q)), some (.int (nI m)), some (.int (nI al)), none, none, none, none] (by decide) rfl (by intro w hw; simp at hw; rcases hw with rfl | rfl | rfl | rfl <;> rfl) (Nat.le_of_ble_eq_true rfl) rfl ?_
  intro F Q E hR
  refine z_ic0 E dX0_fromOne_0 ?_
  refine z_ist4 E dX0_fromOne_1 ?_
  have L3 : ∀ (fuel : Nat) (k n' : Nat) (f : Nat → Nat) (o5 o6 o7 : Option Value), (k ≤ 48) → (n' ≤ n + k) → (SetK n' f (fun x y z => R x y z ∨ oneK q m k a b c x y z) (Kp al q)) → (48 < k + fuel) → Z0 g F Q 8 (a, b, c, n', f) 3 [some (.ref (go g)), some (.int (nI q)), some (.int (nI m)), some (.int (nI al)), some (.int (nI k)), o5, o6, o7] [] := by
    intro fuel
    induction fuel with
    | zero =>
      intro k n' f o5 o6 o7 h1 h2 hS h3
      exfalso; omega
    | succ fuel ih3 =>
      intro k n' f o5 o6 o7 h1 h2 hS h3
      refine z_ild4 E dX0_fromOne_3 ?_
      refine z_bipush E 48 (by decide) dX0_fromOne_5 ?_
      refine z_icmp_ge E (by omega) (by omega) 133 dX0_fromOne_7 (by decide) (fun c7 => ?_) (fun c7 => ?_)
      · exact hR dX0_fromOne_133 ⟨n', f, rfl, by omega, hS.congr (fun x y z _ _ => or_congr Iff.rfl (by simp only [oneK, oneF]; omega))⟩
      · refine z_ild4 E dX0_fromOne_10 ?_
        refine z_ic3 E dX0_fromOne_12 ?_
        refine z_irem E (by omega) (by omega) (by omega) dX0_fromOne_13 ?_
        refine z_ist5 E dX0_fromOne_14 ?_
        refine z_ild4 E dX0_fromOne_16 ?_
        refine z_ic3 E dX0_fromOne_18 ?_
        refine z_idiv E (by omega) (by omega) (by omega) dX0_fromOne_19 ?_
        refine z_ic1 E dX0_fromOne_20 ?_
        refine z_iadd E dX0_fromOne_21 ?_
        refine z_ist6 E dX0_fromOne_22 ?_
        refine z_ild5 E dX0_fromOne_24 ?_
        refine z_ic2 E dX0_fromOne_26 ?_
        have J40 : ∀ (v : Nat), ((v = 1 ∧ (k % 3 < 2 ∨ q ≠ 4)) ∨ (v = 0 ∧ k % 3 = 2 ∧ q = 4)) → Z0 g F Q 8 (a, b, c, n', f) 40 [some (.ref (go g)), some (.int (nI q)), some (.int (nI m)), some (.int (nI al)), some (.int (nI k)), some (.int (nI (k % 3))), some (.int (nI (k / 3 + 1))), o7] [.int (nI v)] := by
          intro v hv
          have hh := hN_cases a b c (show k % 3 < 3 by omega)
          have J127 : ∀ (n2 : Nat) (f2 : Nat → Nat), (n2 ≤ n + (k + 1)) → (SetK n2 f2 (fun x y z => R x y z ∨ oneK q m (k + 1) a b c x y z) (Kp al q)) → Z0 g F Q 8 (a, b, c, n2, f2) 127 [some (.ref (go g)), some (.int (nI q)), some (.int (nI m)), some (.int (nI al)), some (.int (nI k)), some (.int (nI (k % 3))), some (.int (nI (k / 3 + 1))), some (.int (nI v))] [] := by
            intro n2 f2 hn2 hS2
            refine z_inc4 E dX0_fromOne_127 ?_
            refine z_goto E 3 dX0_fromOne_130 (by decide) ?_
            exact ih3 (k + 1) _ _ _ _ _ (by omega) (by omega) hS2 (by omega)
          refine z_ist7 E dX0_fromOne_40 ?_
          refine z_ild7 E dX0_fromOne_42 ?_
          refine z_if_eq E (by omega) 127 dX0_fromOne_44 (by decide) (fun c44 => ?_) (fun c44 => ?_)
          · exact J127 _ _ (by omega) (hS.congr (fun x y z _ _ => or_congr Iff.rfl (by simp only [oneK]; omega)))
          · refine z_ild6 E dX0_fromOne_47 ?_
            refine z_ald0 E dX0_fromOne_49 ?_
            refine z0_get_heaps E dX0_fromOne_50 ?_
            refine z_ild5 E dX0_fromOne_53 ?_
            refine z0_hi E (by omega) dX0_fromOne_55 ?_
            refine z_icmp_gt E (by omega) (by omega) 127 dX0_fromOne_56 (by decide) (fun c56 => ?_) (fun c56 => ?_)
            · exact J127 _ _ (by omega) (hS.congr (fun x y z _ _ => or_congr Iff.rfl (by simp only [oneK]; omega)))
            · refine z_ild6 E dX0_fromOne_59 ?_
              refine z_ild2 E dX0_fromOne_61 ?_
              refine z_icmp_gt E (by omega) (by omega) 127 dX0_fromOne_62 (by decide) (fun c62 => ?_) (fun c62 => ?_)
              · exact J127 _ _ (by omega) (hS.congr (fun x y z _ _ => or_congr Iff.rfl (by simp only [oneK]; omega)))
              · refine z_ald0 E dX0_fromOne_65 ?_
                refine z_ild1 E dX0_fromOne_66 ?_
                refine z0_H0 E dX0_fromOne_67 dX0_fromOne_68 dX0_fromOne_71 dX0_fromOne_72 ?_
                refine z_ild5 E dX0_fromOne_73 ?_
                have J84 : ∀ (v0 : Nat), ((k % 3 = 0 ∧ v0 = k / 3 + 1) ∨ (k % 3 ≠ 0 ∧ v0 = 0)) → Z0 g F Q 8 (a, b, c, n', f) 84 [some (.ref (go g)), some (.int (nI q)), some (.int (nI m)), some (.int (nI al)), some (.int (nI k)), some (.int (nI (k % 3))), some (.int (nI (k / 3 + 1))), some (.int (nI v))] [.int (nI v0), .int (nI a), .int (nI q), .ref (go g)] := by
                  intro v0 hv0
                  refine z_isub E (by omega) dX0_fromOne_84 ?_
                  refine z0_H1 E dX0_fromOne_85 dX0_fromOne_86 dX0_fromOne_89 dX0_fromOne_90 ?_
                  refine z_ild5 E dX0_fromOne_91 ?_
                  refine z_ic1 E dX0_fromOne_93 ?_
                  have J103 : ∀ (v1 : Nat), ((k % 3 = 1 ∧ v1 = k / 3 + 1) ∨ (k % 3 ≠ 1 ∧ v1 = 0)) → Z0 g F Q 8 (a, b, c, n', f) 103 [some (.ref (go g)), some (.int (nI q)), some (.int (nI m)), some (.int (nI al)), some (.int (nI k)), some (.int (nI (k % 3))), some (.int (nI (k / 3 + 1))), some (.int (nI v))] [.int (nI v1), .int (nI b), .int (nI (a - v0)), .int (nI q), .ref (go g)] := by
                    intro v1 hv1
                    refine z_isub E (by omega) dX0_fromOne_103 ?_
                    refine z0_H2 E dX0_fromOne_104 dX0_fromOne_105 dX0_fromOne_108 dX0_fromOne_109 ?_
                    refine z_ild5 E dX0_fromOne_110 ?_
                    refine z_ic2 E dX0_fromOne_112 ?_
                    have J122 : ∀ (v2 : Nat), ((k % 3 = 2 ∧ v2 = k / 3 + 1) ∨ (k % 3 ≠ 2 ∧ v2 = 0)) → Z0 g F Q 8 (a, b, c, n', f) 122 [some (.ref (go g)), some (.int (nI q)), some (.int (nI m)), some (.int (nI al)), some (.int (nI k)), some (.int (nI (k % 3))), some (.int (nI (k / 3 + 1))), some (.int (nI v))] [.int (nI v2), .int (nI c), .int (nI (b - v1)), .int (nI (a - v0)), .int (nI q), .ref (go g)] := by
                      intro v2 hv2
                      refine z_isub E (by omega) dX0_fromOne_122 ?_
                      refine z_ild3 E dX0_fromOne_123 ?_
                      refine z0_c_consider E dX0_fromOne_124 (by decide) (Nat.le_of_ble_eq_true rfl) (m0_consider g a b c n' f q (a - v0) (b - v1) (c - v2) al (fun x y z => R x y z ∨ oneK q m k a b c x y z) hq (by omega) (by omega) (by omega) (fun _ => by omega) hal (by omega) hS) (fun u124 h124 => ?_)
                      obtain ⟨n124, f124, rfl, hn124, hS124⟩ := h124
                      exact J127 _ _ (by omega) (hS124.congr (fun x y z _ _ => Iff.trans or_assoc (or_congr Iff.rfl (by simp only [oneK]; omega))))
                    refine z_icmp_ne E (by omega) (by omega) 121 dX0_fromOne_113 (by decide) (fun c113 => ?_) (fun c113 => ?_)
                    · refine z_ic0 E dX0_fromOne_121 ?_
                      exact J122 _ (by omega)
                    · refine z_ild6 E dX0_fromOne_116 ?_
                      refine z_goto E 122 dX0_fromOne_118 (by decide) ?_
                      exact J122 _ (by omega)
                  refine z_icmp_ne E (by omega) (by omega) 102 dX0_fromOne_94 (by decide) (fun c94 => ?_) (fun c94 => ?_)
                  · refine z_ic0 E dX0_fromOne_102 ?_
                    exact J103 _ (by omega)
                  · refine z_ild6 E dX0_fromOne_97 ?_
                    refine z_goto E 103 dX0_fromOne_99 (by decide) ?_
                    exact J103 _ (by omega)
                refine z_if_ne E (by omega) 83 dX0_fromOne_75 (by decide) (fun c75 => ?_) (fun c75 => ?_)
                · refine z_ic0 E dX0_fromOne_83 ?_
                  exact J84 _ (by omega)
                · refine z_ild6 E dX0_fromOne_78 ?_
                  refine z_goto E 84 dX0_fromOne_80 (by decide) ?_
                  exact J84 _ (by omega)
        refine z_icmp_lt E (by omega) (by omega) 35 dX0_fromOne_27 (by decide) (fun c27 => ?_) (fun c27 => ?_)
        · refine z_ic1 E dX0_fromOne_35 ?_
          refine z_goto E 40 dX0_fromOne_36 (by decide) ?_
          exact J40 _ (by omega)
        · refine z_ild1 E dX0_fromOne_30 ?_
          refine z_ic4 E dX0_fromOne_31 ?_
          refine z_icmp_eq E (by omega) (by omega) 39 dX0_fromOne_32 (by decide) (fun c32 => ?_) (fun c32 => ?_)
          · refine z_ic0 E dX0_fromOne_39 ?_
            exact J40 _ (by omega)
          · refine z_ic1 E dX0_fromOne_35 ?_
            refine z_goto E 40 dX0_fromOne_36 (by decide) ?_
            exact J40 _ (by omega)
  exact L3 49 0 n mv _ _ _ (by omega) (by omega) (hK.congr (fun x y z _ _ => ⟨Or.inl, fun h => h.elim id (fun e => by simp only [oneK] at e; omega)⟩)) (by omega)
set_option maxHeartbeats 4000000 in
set_option maxRecDepth 100000 in
theorem m0_fromTwo0 (g : GG) (a b c n : Nat) (mv : Nat → Nat) (al : Nat) (R : Nat → Nat → Nat → Prop) (ha : a ≤ 15) (hb : b ≤ 15) (hc : c ≤ 15) (hal : al ≤ 1) (hn : n ≤ 570) (hK : SetK n mv R (Kp al 2)) : C0V g yX0_fromTwo cX0_fromTwo 11 4 [.int (nI 0), .int (nI al)] (a, b, c, n, mv) (fun u => ∃ (n' : Nat) (f' : Nat → Nat), u = (a, b, c, n', f') ∧ n' ≤ n + 225 ∧ SetK n' f' (fun x y z => R x y z ∨ (x = a ∧ y < b ∧ z < c)) (Kp al 2)) := by
  refine CtV.of RX0 [some (.ref (go g)), some (.int (nI 0)), some (.int (nI al)), none, none, none, none, none, none, none, none] (by decide) rfl (by intro w hw; simp at hw; rcases hw with rfl | rfl | rfl <;> rfl) (Nat.le_of_ble_eq_true rfl) rfl ?_
  intro F Q E hR
  have hpr : b * c ≤ 15 * 15 := Nat.mul_le_mul (by omega) (by omega)
  refine z_ild1 E dX0_fromTwo_0 ?_
  refine z_if_ne E (by omega) 8 dX0_fromTwo_1 (by decide) (fun c1 => ?_) (fun c1 => ?_)
  · exfalso; omega
  · refine z_ic1 E dX0_fromTwo_4 ?_
    refine z_goto E 9 dX0_fromTwo_5 (by decide) ?_
    refine z_ist3 E dX0_fromTwo_9 ?_
    refine z_ild1 E dX0_fromTwo_10 ?_
    refine z_ic2 E dX0_fromTwo_11 ?_
    refine z_icmp_ne E (by omega) (by omega) 19 dX0_fromTwo_12 (by decide) (fun c12 => ?_) (fun c12 => ?_)
    · refine z_ic2 E dX0_fromTwo_19 ?_
      refine z_ist4 E dX0_fromTwo_20 ?_
      refine z_ic0 E dX0_fromTwo_22 ?_
      refine z_ist5 E dX0_fromTwo_23 ?_
      have L25 : ∀ (fuel : Nat) (k n' : Nat) (f : Nat → Nat) (o6 o7 o8 o9 o10 : Option Value), (k ≤ b * c) → (n' ≤ n + k) → (SetK n' f (fun x y z => R x y z ∨ (x = a ∧ y < b ∧ z < c ∧ z * b + y < k)) (Kp al 2)) → (b * c < k + fuel) → Z0 g F Q 11 (a, b, c, n', f) 25 [some (.ref (go g)), some (.int (nI 0)), some (.int (nI al)), some (.int (nI 1)), some (.int (nI 2)), some (.int (nI k)), o6, o7, o8, o9, o10] [] := by
        intro fuel
        induction fuel with
        | zero =>
          intro k n' f o6 o7 o8 o9 o10 h1 h2 hS h3
          exfalso; omega
        | succ fuel ih25 =>
          intro k n' f o6 o7 o8 o9 o10 h1 h2 hS h3
          have hpr : b * c ≤ 15 * 15 := Nat.mul_le_mul (by omega) (by omega)
          refine z_ild5 E dX0_fromTwo_25 ?_
          refine z_ald0 E dX0_fromTwo_27 ?_
          refine z0_get_heaps E dX0_fromTwo_28 ?_
          refine z_ild3 E dX0_fromTwo_31 ?_
          refine z0_h1 E dX0_fromTwo_32 ?_
          refine z_ald0 E dX0_fromTwo_33 ?_
          refine z0_get_heaps E dX0_fromTwo_34 ?_
          refine z_ild4 E dX0_fromTwo_37 ?_
          refine z0_h2 E dX0_fromTwo_39 ?_
          refine z_imul E dX0_fromTwo_40 ?_
          refine z_icmp_ge E (by omega) (by omega) 149 dX0_fromTwo_41 (by decide) (fun c41 => ?_) (fun c41 => ?_)
          · exact hR dX0_fromTwo_149 ⟨n', f, rfl, by omega, hS.congr (fun x y z _ _ => or_congr Iff.rfl ⟨fun e => ⟨e.1, e.2.1, e.2.2.1⟩, fun e => ⟨e.1, e.2.1, e.2.2, tw_end e.2.1 e.2.2 c41⟩⟩)⟩
          · have hp0 : 0 < b := by
              rcases Nat.eq_zero_or_pos b with e | e
              · rw [e, Nat.zero_mul] at c41; omega
              · exact e
            have hm1 := Nat.mod_lt k hp0
            have hd1 : k / b < c := Nat.div_lt_of_lt_mul c41
            refine z_ild5 E dX0_fromTwo_44 ?_
            refine z_ald0 E dX0_fromTwo_46 ?_
            refine z0_get_heaps E dX0_fromTwo_47 ?_
            refine z_ild3 E dX0_fromTwo_50 ?_
            refine z0_h1 E dX0_fromTwo_51 ?_
            refine z_irem E (by omega) (by omega) (by omega) dX0_fromTwo_52 ?_
            refine z_ist6 E dX0_fromTwo_53 ?_
            refine z_ild5 E dX0_fromTwo_55 ?_
            refine z_ald0 E dX0_fromTwo_57 ?_
            refine z0_get_heaps E dX0_fromTwo_58 ?_
            refine z_ild3 E dX0_fromTwo_61 ?_
            refine z0_h1 E dX0_fromTwo_62 ?_
            refine z_idiv E (by omega) (by omega) (by omega) dX0_fromTwo_63 ?_
            refine z_ist7 E dX0_fromTwo_64 ?_
            refine z_ild3 E dX0_fromTwo_66 ?_
            refine z_if_ne E (by omega) 75 dX0_fromTwo_67 (by decide) (fun c67 => ?_) (fun c67 => ?_)
            · refine z0_H0 E dX0_fromTwo_75 dX0_fromTwo_76 dX0_fromTwo_79 dX0_fromTwo_80 ?_
              refine z_ist8 E dX0_fromTwo_81 ?_
              refine z_ild3 E dX0_fromTwo_83 ?_
              refine z_ic1 E dX0_fromTwo_84 ?_
              refine z_icmp_ne E (by omega) (by omega) 93 dX0_fromTwo_85 (by decide) (fun c85 => ?_) (fun c85 => ?_)
              · exfalso; omega
              · refine z_ild6 E dX0_fromTwo_88 ?_
                refine z_goto E 110 dX0_fromTwo_90 (by decide) ?_
                refine z_ist9 E dX0_fromTwo_110 ?_
                refine z_ild4 E dX0_fromTwo_112 ?_
                refine z_ic2 E dX0_fromTwo_114 ?_
                refine z_icmp_ne E (by omega) (by omega) 123 dX0_fromTwo_115 (by decide) (fun c115 => ?_) (fun c115 => ?_)
                · exfalso; omega
                · refine z_ild7 E dX0_fromTwo_118 ?_
                  refine z_goto E 129 dX0_fromTwo_120 (by decide) ?_
                  refine z_ist10 E dX0_fromTwo_129 ?_
                  refine z_ald0 E dX0_fromTwo_131 ?_
                  refine z_ic2 E dX0_fromTwo_132 ?_
                  refine z_ild8 E dX0_fromTwo_133 ?_
                  refine z_ild9 E dX0_fromTwo_135 ?_
                  refine z_ild10 E dX0_fromTwo_137 ?_
                  refine z_ild2 E dX0_fromTwo_139 ?_
                  refine z0_c_consider E dX0_fromTwo_140 (by decide) (Nat.le_of_ble_eq_true rfl) (m0_consider g a b c n' f 2 a (k % b) (k / b) al (fun x y z => R x y z ∨ (x = a ∧ y < b ∧ z < c ∧ z * b + y < k)) (by omega) (by omega) (by omega) (by omega) (fun _ => by omega) hal (by omega) hS) (fun u140 h140 => ?_)
                  obtain ⟨n140, f140, rfl, hn140, hS140⟩ := h140
                  refine z_inc5 E dX0_fromTwo_143 ?_
                  refine z_goto E 25 dX0_fromTwo_146 (by decide) ?_
                  have hS9 : SetK n140 f140 (fun x y z => R x y z ∨ (x = a ∧ y < b ∧ z < c ∧ z * b + y < (k + 1))) (Kp al 2) := by
                    refine hS140.congr (fun x y z _ _ => Iff.trans or_assoc (or_congr Iff.rfl ?_))
                    constructor
                    · rintro (⟨t1, t2, t3, t4⟩ | ⟨s1, s2, s3⟩)
                      · exact ⟨t1, t2, t3, by omega⟩
                      · exact ⟨by omega, by omega, by omega, (tw_step (by omega)).mpr (Or.inr ⟨by omega, by omega⟩)⟩
                    · rintro ⟨t1, t2, t3, t4⟩
                      rcases (tw_step t2).mp t4 with t5 | ⟨t5, t6⟩
                      · exact Or.inl ⟨t1, t2, t3, t5⟩
                      · exact Or.inr (by omega)
                  exact ih25 (k + 1) _ _ _ _ _ _ _ (by omega) (by omega) hS9 (by omega)
            · exfalso; omega
      exact L25 (b * c + 1) 0 n mv _ _ _ _ _ (by omega) (by omega) (hK.congr (fun x y z _ _ => ⟨Or.inl, fun h => h.elim id (fun e => by omega)⟩)) (by omega)
    · exfalso; omega
set_option maxHeartbeats 4000000 in
set_option maxRecDepth 100000 in
theorem m0_fromTwo1 (g : GG) (a b c n : Nat) (mv : Nat → Nat) (al : Nat) (R : Nat → Nat → Nat → Prop) (ha : a ≤ 15) (hb : b ≤ 15) (hc : c ≤ 15) (hal : al ≤ 1) (hn : n ≤ 570) (hK : SetK n mv R (Kp al 2)) : C0V g yX0_fromTwo cX0_fromTwo 11 4 [.int (nI 1), .int (nI al)] (a, b, c, n, mv) (fun u => ∃ (n' : Nat) (f' : Nat → Nat), u = (a, b, c, n', f') ∧ n' ≤ n + 225 ∧ SetK n' f' (fun x y z => R x y z ∨ (y = b ∧ x < a ∧ z < c)) (Kp al 2)) := by
  refine CtV.of RX0 [some (.ref (go g)), some (.int (nI 1)), some (.int (nI al)), none, none, none, none, none, none, none, none] (by decide) rfl (by intro w hw; simp at hw; rcases hw with rfl | rfl | rfl <;> rfl) (Nat.le_of_ble_eq_true rfl) rfl ?_
  intro F Q E hR
  have hpr : a * c ≤ 15 * 15 := Nat.mul_le_mul (by omega) (by omega)
  refine z_ild1 E dX0_fromTwo_0 ?_
  refine z_if_ne E (by omega) 8 dX0_fromTwo_1 (by decide) (fun c1 => ?_) (fun c1 => ?_)
  · refine z_ic0 E dX0_fromTwo_8 ?_
    refine z_ist3 E dX0_fromTwo_9 ?_
    refine z_ild1 E dX0_fromTwo_10 ?_
    refine z_ic2 E dX0_fromTwo_11 ?_
    refine z_icmp_ne E (by omega) (by omega) 19 dX0_fromTwo_12 (by decide) (fun c12 => ?_) (fun c12 => ?_)
    · refine z_ic2 E dX0_fromTwo_19 ?_
      refine z_ist4 E dX0_fromTwo_20 ?_
      refine z_ic0 E dX0_fromTwo_22 ?_
      refine z_ist5 E dX0_fromTwo_23 ?_
      have L25 : ∀ (fuel : Nat) (k n' : Nat) (f : Nat → Nat) (o6 o7 o8 o9 o10 : Option Value), (k ≤ a * c) → (n' ≤ n + k) → (SetK n' f (fun x y z => R x y z ∨ (y = b ∧ x < a ∧ z < c ∧ z * a + x < k)) (Kp al 2)) → (a * c < k + fuel) → Z0 g F Q 11 (a, b, c, n', f) 25 [some (.ref (go g)), some (.int (nI 1)), some (.int (nI al)), some (.int (nI 0)), some (.int (nI 2)), some (.int (nI k)), o6, o7, o8, o9, o10] [] := by
        intro fuel
        induction fuel with
        | zero =>
          intro k n' f o6 o7 o8 o9 o10 h1 h2 hS h3
          exfalso; omega
        | succ fuel ih25 =>
          intro k n' f o6 o7 o8 o9 o10 h1 h2 hS h3
          have hpr : a * c ≤ 15 * 15 := Nat.mul_le_mul (by omega) (by omega)
          refine z_ild5 E dX0_fromTwo_25 ?_
          refine z_ald0 E dX0_fromTwo_27 ?_
          refine z0_get_heaps E dX0_fromTwo_28 ?_
          refine z_ild3 E dX0_fromTwo_31 ?_
          refine z0_h0 E dX0_fromTwo_32 ?_
          refine z_ald0 E dX0_fromTwo_33 ?_
          refine z0_get_heaps E dX0_fromTwo_34 ?_
          refine z_ild4 E dX0_fromTwo_37 ?_
          refine z0_h2 E dX0_fromTwo_39 ?_
          refine z_imul E dX0_fromTwo_40 ?_
          refine z_icmp_ge E (by omega) (by omega) 149 dX0_fromTwo_41 (by decide) (fun c41 => ?_) (fun c41 => ?_)
          · exact hR dX0_fromTwo_149 ⟨n', f, rfl, by omega, hS.congr (fun x y z _ _ => or_congr Iff.rfl ⟨fun e => ⟨e.1, e.2.1, e.2.2.1⟩, fun e => ⟨e.1, e.2.1, e.2.2, tw_end e.2.1 e.2.2 c41⟩⟩)⟩
          · have hp0 : 0 < a := by
              rcases Nat.eq_zero_or_pos a with e | e
              · rw [e, Nat.zero_mul] at c41; omega
              · exact e
            have hm1 := Nat.mod_lt k hp0
            have hd1 : k / a < c := Nat.div_lt_of_lt_mul c41
            refine z_ild5 E dX0_fromTwo_44 ?_
            refine z_ald0 E dX0_fromTwo_46 ?_
            refine z0_get_heaps E dX0_fromTwo_47 ?_
            refine z_ild3 E dX0_fromTwo_50 ?_
            refine z0_h0 E dX0_fromTwo_51 ?_
            refine z_irem E (by omega) (by omega) (by omega) dX0_fromTwo_52 ?_
            refine z_ist6 E dX0_fromTwo_53 ?_
            refine z_ild5 E dX0_fromTwo_55 ?_
            refine z_ald0 E dX0_fromTwo_57 ?_
            refine z0_get_heaps E dX0_fromTwo_58 ?_
            refine z_ild3 E dX0_fromTwo_61 ?_
            refine z0_h0 E dX0_fromTwo_62 ?_
            refine z_idiv E (by omega) (by omega) (by omega) dX0_fromTwo_63 ?_
            refine z_ist7 E dX0_fromTwo_64 ?_
            refine z_ild3 E dX0_fromTwo_66 ?_
            refine z_if_ne E (by omega) 75 dX0_fromTwo_67 (by decide) (fun c67 => ?_) (fun c67 => ?_)
            · exfalso; omega
            · refine z_ild6 E dX0_fromTwo_70 ?_
              refine z_goto E 81 dX0_fromTwo_72 (by decide) ?_
              refine z_ist8 E dX0_fromTwo_81 ?_
              refine z_ild3 E dX0_fromTwo_83 ?_
              refine z_ic1 E dX0_fromTwo_84 ?_
              refine z_icmp_ne E (by omega) (by omega) 93 dX0_fromTwo_85 (by decide) (fun c85 => ?_) (fun c85 => ?_)
              · refine z_ild4 E dX0_fromTwo_93 ?_
                refine z_ic1 E dX0_fromTwo_95 ?_
                refine z_icmp_ne E (by omega) (by omega) 104 dX0_fromTwo_96 (by decide) (fun c96 => ?_) (fun c96 => ?_)
                · refine z0_H1 E dX0_fromTwo_104 dX0_fromTwo_105 dX0_fromTwo_108 dX0_fromTwo_109 ?_
                  refine z_ist9 E dX0_fromTwo_110 ?_
                  refine z_ild4 E dX0_fromTwo_112 ?_
                  refine z_ic2 E dX0_fromTwo_114 ?_
                  refine z_icmp_ne E (by omega) (by omega) 123 dX0_fromTwo_115 (by decide) (fun c115 => ?_) (fun c115 => ?_)
                  · exfalso; omega
                  · refine z_ild7 E dX0_fromTwo_118 ?_
                    refine z_goto E 129 dX0_fromTwo_120 (by decide) ?_
                    refine z_ist10 E dX0_fromTwo_129 ?_
                    refine z_ald0 E dX0_fromTwo_131 ?_
                    refine z_ic2 E dX0_fromTwo_132 ?_
                    refine z_ild8 E dX0_fromTwo_133 ?_
                    refine z_ild9 E dX0_fromTwo_135 ?_
                    refine z_ild10 E dX0_fromTwo_137 ?_
                    refine z_ild2 E dX0_fromTwo_139 ?_
                    refine z0_c_consider E dX0_fromTwo_140 (by decide) (Nat.le_of_ble_eq_true rfl) (m0_consider g a b c n' f 2 (k % a) b (k / a) al (fun x y z => R x y z ∨ (y = b ∧ x < a ∧ z < c ∧ z * a + x < k)) (by omega) (by omega) (by omega) (by omega) (fun _ => by omega) hal (by omega) hS) (fun u140 h140 => ?_)
                    obtain ⟨n140, f140, rfl, hn140, hS140⟩ := h140
                    refine z_inc5 E dX0_fromTwo_143 ?_
                    refine z_goto E 25 dX0_fromTwo_146 (by decide) ?_
                    have hS9 : SetK n140 f140 (fun x y z => R x y z ∨ (y = b ∧ x < a ∧ z < c ∧ z * a + x < (k + 1))) (Kp al 2) := by
                      refine hS140.congr (fun x y z _ _ => Iff.trans or_assoc (or_congr Iff.rfl ?_))
                      constructor
                      · rintro (⟨t1, t2, t3, t4⟩ | ⟨s1, s2, s3⟩)
                        · exact ⟨t1, t2, t3, by omega⟩
                        · exact ⟨by omega, by omega, by omega, (tw_step (by omega)).mpr (Or.inr ⟨by omega, by omega⟩)⟩
                      · rintro ⟨t1, t2, t3, t4⟩
                        rcases (tw_step t2).mp t4 with t5 | ⟨t5, t6⟩
                        · exact Or.inl ⟨t1, t2, t3, t5⟩
                        · exact Or.inr (by omega)
                    exact ih25 (k + 1) _ _ _ _ _ _ _ (by omega) (by omega) hS9 (by omega)
                · exfalso; omega
              · exfalso; omega
      exact L25 (a * c + 1) 0 n mv _ _ _ _ _ (by omega) (by omega) (hK.congr (fun x y z _ _ => ⟨Or.inl, fun h => h.elim id (fun e => by omega)⟩)) (by omega)
    · exfalso; omega
  · exfalso; omega
set_option maxHeartbeats 4000000 in
set_option maxRecDepth 100000 in
theorem m0_fromTwo2 (g : GG) (a b c n : Nat) (mv : Nat → Nat) (al : Nat) (R : Nat → Nat → Nat → Prop) (ha : a ≤ 15) (hb : b ≤ 15) (hc : c ≤ 15) (hal : al ≤ 1) (hn : n ≤ 570) (hK : SetK n mv R (Kp al 2)) : C0V g yX0_fromTwo cX0_fromTwo 11 4 [.int (nI 2), .int (nI al)] (a, b, c, n, mv) (fun u => ∃ (n' : Nat) (f' : Nat → Nat), u = (a, b, c, n', f') ∧ n' ≤ n + 225 ∧ SetK n' f' (fun x y z => R x y z ∨ (z = c ∧ x < a ∧ y < b)) (Kp al 2)) := by
  refine CtV.of RX0 [some (.ref (go g)), some (.int (nI 2)), some (.int (nI al)), none, none, none, none, none, none, none, none] (by decide) rfl (by intro w hw; simp at hw; rcases hw with rfl | rfl | rfl <;> rfl) (Nat.le_of_ble_eq_true rfl) rfl ?_
  intro F Q E hR
  have hpr : a * b ≤ 15 * 15 := Nat.mul_le_mul (by omega) (by omega)
  refine z_ild1 E dX0_fromTwo_0 ?_
  refine z_if_ne E (by omega) 8 dX0_fromTwo_1 (by decide) (fun c1 => ?_) (fun c1 => ?_)
  · refine z_ic0 E dX0_fromTwo_8 ?_
    refine z_ist3 E dX0_fromTwo_9 ?_
    refine z_ild1 E dX0_fromTwo_10 ?_
    refine z_ic2 E dX0_fromTwo_11 ?_
    refine z_icmp_ne E (by omega) (by omega) 19 dX0_fromTwo_12 (by decide) (fun c12 => ?_) (fun c12 => ?_)
    · exfalso; omega
    · refine z_ic1 E dX0_fromTwo_15 ?_
      refine z_goto E 20 dX0_fromTwo_16 (by decide) ?_
      refine z_ist4 E dX0_fromTwo_20 ?_
      refine z_ic0 E dX0_fromTwo_22 ?_
      refine z_ist5 E dX0_fromTwo_23 ?_
      have L25 : ∀ (fuel : Nat) (k n' : Nat) (f : Nat → Nat) (o6 o7 o8 o9 o10 : Option Value), (k ≤ a * b) → (n' ≤ n + k) → (SetK n' f (fun x y z => R x y z ∨ (z = c ∧ x < a ∧ y < b ∧ y * a + x < k)) (Kp al 2)) → (a * b < k + fuel) → Z0 g F Q 11 (a, b, c, n', f) 25 [some (.ref (go g)), some (.int (nI 2)), some (.int (nI al)), some (.int (nI 0)), some (.int (nI 1)), some (.int (nI k)), o6, o7, o8, o9, o10] [] := by
        intro fuel
        induction fuel with
        | zero =>
          intro k n' f o6 o7 o8 o9 o10 h1 h2 hS h3
          exfalso; omega
        | succ fuel ih25 =>
          intro k n' f o6 o7 o8 o9 o10 h1 h2 hS h3
          have hpr : a * b ≤ 15 * 15 := Nat.mul_le_mul (by omega) (by omega)
          refine z_ild5 E dX0_fromTwo_25 ?_
          refine z_ald0 E dX0_fromTwo_27 ?_
          refine z0_get_heaps E dX0_fromTwo_28 ?_
          refine z_ild3 E dX0_fromTwo_31 ?_
          refine z0_h0 E dX0_fromTwo_32 ?_
          refine z_ald0 E dX0_fromTwo_33 ?_
          refine z0_get_heaps E dX0_fromTwo_34 ?_
          refine z_ild4 E dX0_fromTwo_37 ?_
          refine z0_h1 E dX0_fromTwo_39 ?_
          refine z_imul E dX0_fromTwo_40 ?_
          refine z_icmp_ge E (by omega) (by omega) 149 dX0_fromTwo_41 (by decide) (fun c41 => ?_) (fun c41 => ?_)
          · exact hR dX0_fromTwo_149 ⟨n', f, rfl, by omega, hS.congr (fun x y z _ _ => or_congr Iff.rfl ⟨fun e => ⟨e.1, e.2.1, e.2.2.1⟩, fun e => ⟨e.1, e.2.1, e.2.2, tw_end e.2.1 e.2.2 c41⟩⟩)⟩
          · have hp0 : 0 < a := by
              rcases Nat.eq_zero_or_pos a with e | e
              · rw [e, Nat.zero_mul] at c41; omega
              · exact e
            have hm1 := Nat.mod_lt k hp0
            have hd1 : k / a < b := Nat.div_lt_of_lt_mul c41
            refine z_ild5 E dX0_fromTwo_44 ?_
            refine z_ald0 E dX0_fromTwo_46 ?_
            refine z0_get_heaps E dX0_fromTwo_47 ?_
            refine z_ild3 E dX0_fromTwo_50 ?_
            refine z0_h0 E dX0_fromTwo_51 ?_
            refine z_irem E (by omega) (by omega) (by omega) dX0_fromTwo_52 ?_
            refine z_ist6 E dX0_fromTwo_53 ?_
            refine z_ild5 E dX0_fromTwo_55 ?_
            refine z_ald0 E dX0_fromTwo_57 ?_
            refine z0_get_heaps E dX0_fromTwo_58 ?_
            refine z_ild3 E dX0_fromTwo_61 ?_
            refine z0_h0 E dX0_fromTwo_62 ?_
            refine z_idiv E (by omega) (by omega) (by omega) dX0_fromTwo_63 ?_
            refine z_ist7 E dX0_fromTwo_64 ?_
            refine z_ild3 E dX0_fromTwo_66 ?_
            refine z_if_ne E (by omega) 75 dX0_fromTwo_67 (by decide) (fun c67 => ?_) (fun c67 => ?_)
            · exfalso; omega
            · refine z_ild6 E dX0_fromTwo_70 ?_
              refine z_goto E 81 dX0_fromTwo_72 (by decide) ?_
              refine z_ist8 E dX0_fromTwo_81 ?_
              refine z_ild3 E dX0_fromTwo_83 ?_
              refine z_ic1 E dX0_fromTwo_84 ?_
              refine z_icmp_ne E (by omega) (by omega) 93 dX0_fromTwo_85 (by decide) (fun c85 => ?_) (fun c85 => ?_)
              · refine z_ild4 E dX0_fromTwo_93 ?_
                refine z_ic1 E dX0_fromTwo_95 ?_
                refine z_icmp_ne E (by omega) (by omega) 104 dX0_fromTwo_96 (by decide) (fun c96 => ?_) (fun c96 => ?_)
                · exfalso; omega
                · refine z_ild7 E dX0_fromTwo_99 ?_
                  refine z_goto E 110 dX0_fromTwo_101 (by decide) ?_
                  refine z_ist9 E dX0_fromTwo_110 ?_
                  refine z_ild4 E dX0_fromTwo_112 ?_
                  refine z_ic2 E dX0_fromTwo_114 ?_
                  refine z_icmp_ne E (by omega) (by omega) 123 dX0_fromTwo_115 (by decide) (fun c115 => ?_) (fun c115 => ?_)
                  · refine z0_H2 E dX0_fromTwo_123 dX0_fromTwo_124 dX0_fromTwo_127 dX0_fromTwo_128 ?_
                    refine z_ist10 E dX0_fromTwo_129 ?_
                    refine z_ald0 E dX0_fromTwo_131 ?_
                    refine z_ic2 E dX0_fromTwo_132 ?_
                    refine z_ild8 E dX0_fromTwo_133 ?_
                    refine z_ild9 E dX0_fromTwo_135 ?_
                    refine z_ild10 E dX0_fromTwo_137 ?_
                    refine z_ild2 E dX0_fromTwo_139 ?_
                    refine z0_c_consider E dX0_fromTwo_140 (by decide) (Nat.le_of_ble_eq_true rfl) (m0_consider g a b c n' f 2 (k % a) (k / a) c al (fun x y z => R x y z ∨ (z = c ∧ x < a ∧ y < b ∧ y * a + x < k)) (by omega) (by omega) (by omega) (by omega) (fun _ => by omega) hal (by omega) hS) (fun u140 h140 => ?_)
                    obtain ⟨n140, f140, rfl, hn140, hS140⟩ := h140
                    refine z_inc5 E dX0_fromTwo_143 ?_
                    refine z_goto E 25 dX0_fromTwo_146 (by decide) ?_
                    have hS9 : SetK n140 f140 (fun x y z => R x y z ∨ (z = c ∧ x < a ∧ y < b ∧ y * a + x < (k + 1))) (Kp al 2) := by
                      refine hS140.congr (fun x y z _ _ => Iff.trans or_assoc (or_congr Iff.rfl ?_))
                      constructor
                      · rintro (⟨t1, t2, t3, t4⟩ | ⟨s1, s2, s3⟩)
                        · exact ⟨t1, t2, t3, by omega⟩
                        · exact ⟨by omega, by omega, by omega, (tw_step (by omega)).mpr (Or.inr ⟨by omega, by omega⟩)⟩
                      · rintro ⟨t1, t2, t3, t4⟩
                        rcases (tw_step t2).mp t4 with t5 | ⟨t5, t6⟩
                        · exact Or.inl ⟨t1, t2, t3, t5⟩
                        · exact Or.inr (by omega)
                    exact ih25 (k + 1) _ _ _ _ _ _ _ (by omega) (by omega) hS9 (by omega)
                  · exfalso; omega
              · exfalso; omega
      exact L25 (a * b + 1) 0 n mv _ _ _ _ _ (by omega) (by omega) (hK.congr (fun x y z _ _ => ⟨Or.inl, fun h => h.elim id (fun e => by omega)⟩)) (by omega)
  · exfalso; omega
set_option maxHeartbeats 4000000 in
set_option maxRecDepth 100000 in
theorem m0_downStairs (g : GG) (a b c n : Nat) (mv : Nat → Nat) (al : Nat) (R : Nat → Nat → Nat → Prop) (ha : a ≤ 15) (hb : b ≤ 15) (hc : c ≤ 15) (hal : al ≤ 1) (hn : n ≤ 700) (hK : SetK n mv R (Kp al 3)) : C0V g yX0_downStairs cX0_downStairs 3 4 [.int (nI al)] (a, b, c, n, mv) (fun u => ∃ (n' : Nat) (f' : Nat → Nat), u = (a, b, c, n', f') ∧ n' ≤ n + 45 ∧ SetK n' f' (fun x y z => R x y z ∨ pushM a b c x y z) (Kp al 3)) := by
  refine CtV.of RX0 [some (.ref (go g)), some (.int (nI al)), none] (by decide) rfl (by intro w hw; simp at hw; rcases hw with rfl | rfl <;> rfl) (Nat.le_of_ble_eq_true rfl) rfl ?_
  intro F Q E hR
  refine z_ic1 E dX0_downStairs_0 ?_
  refine z_ist2 E dX0_downStairs_1 ?_
  have L2 : ∀ (fuel : Nat) (k n' : Nat) (f : Nat → Nat), (1 ≤ k) → (k ≤ 16) → (n' + 3 ≤ n + 3 * k) → (SetK n' f (fun x y z => R x y z ∨ dsK k k k a b c x y z) (Kp al 3)) → (16 < k + fuel) → Z0 g F Q 3 (a, b, c, n', f) 2 [some (.ref (go g)), some (.int (nI al)), some (.int (nI k))] [] := by
    intro fuel
    induction fuel with
    | zero =>
      intro k n' f h0 h1 h2 hS h3
      exfalso; omega
    | succ fuel ih2 =>
      intro k n' f h0 h1 h2 hS h3
      refine z_ild2 E dX0_downStairs_2 ?_
      refine z_bipush E 15 (by decide) dX0_downStairs_3 ?_
      refine z_icmp_gt E (by omega) (by omega) 126 dX0_downStairs_5 (by decide) (fun c5 => ?_) (fun c5 => ?_)
      · exact hR dX0_downStairs_126 ⟨n', f, rfl, by omega, hS.congr (fun x y z _ _ => or_congr Iff.rfl (by simp only [dsK, pushM]; omega))⟩
      · have J44 : ∀ (n1 : Nat) (f1 : Nat → Nat), (n1 + 2 ≤ n + 3 * k) → (SetK n1 f1 (fun x y z => R x y z ∨ dsK (k + 1) k k a b c x y z) (Kp al 3)) → Z0 g F Q 3 (a, b, c, n1, f1) 44 [some (.ref (go g)), some (.int (nI al)), some (.int (nI k))] [] := by
          intro n1 f1 hn1 hS1
          have J82 : ∀ (n2 : Nat) (f2 : Nat → Nat), (n2 + 1 ≤ n + 3 * k) → (SetK n2 f2 (fun x y z => R x y z ∨ dsK (k + 1) (k + 1) k a b c x y z) (Kp al 3)) → Z0 g F Q 3 (a, b, c, n2, f2) 82 [some (.ref (go g)), some (.int (nI al)), some (.int (nI k))] [] := by
            intro n2 f2 hn2 hS2
            have J120 : ∀ (n3 : Nat) (f3 : Nat → Nat), (n3 ≤ n + 3 * k) → (SetK n3 f3 (fun x y z => R x y z ∨ dsK (k + 1) (k + 1) (k + 1) a b c x y z) (Kp al 3)) → Z0 g F Q 3 (a, b, c, n3, f3) 120 [some (.ref (go g)), some (.int (nI al)), some (.int (nI k))] [] := by
              intro n3 f3 hn3 hS3
              refine z_inc2 E dX0_downStairs_120 ?_
              refine z_goto E 2 dX0_downStairs_123 (by decide) ?_
              exact ih2 (k + 1) _ _ (by omega) (by omega) (by omega) hS3 (by omega)
            refine z_ild2 E dX0_downStairs_82 ?_
            refine z0_H2 E dX0_downStairs_83 dX0_downStairs_84 dX0_downStairs_87 dX0_downStairs_88 ?_
            refine z_icmp_gt E (by omega) (by omega) 120 dX0_downStairs_89 (by decide) (fun c89 => ?_) (fun c89 => ?_)
            · exact J120 _ _ (by omega) (hS2.congr (fun x y z _ _ => or_congr Iff.rfl (by simp only [dsK]; omega)))
            · refine z_ald0 E dX0_downStairs_92 ?_
              refine z_ic3 E dX0_downStairs_93 ?_
              refine z0_H0 E dX0_downStairs_94 dX0_downStairs_95 dX0_downStairs_98 dX0_downStairs_99 ?_
              refine z0_H1 E dX0_downStairs_100 dX0_downStairs_101 dX0_downStairs_104 dX0_downStairs_105 ?_
              refine z_ild2 E dX0_downStairs_106 ?_
              refine z_iadd E dX0_downStairs_107 ?_
              refine z0_H2 E dX0_downStairs_108 dX0_downStairs_109 dX0_downStairs_112 dX0_downStairs_113 ?_
              refine z_ild2 E dX0_downStairs_114 ?_
              refine z_isub E (by omega) dX0_downStairs_115 ?_
              refine z_ild1 E dX0_downStairs_116 ?_
              refine z0_c_consider E dX0_downStairs_117 (by decide) (Nat.le_of_ble_eq_true rfl) (m0_consider g a b c n2 f2 3 a (b + k) (c - k) al (fun x y z => R x y z ∨ dsK (k + 1) (k + 1) k a b c x y z) (by omega) (by omega) (by omega) (by omega) (fun e => by omega) hal (by omega) hS2) (fun u117 h117 => ?_)
              obtain ⟨n117, f117, rfl, hn117, hS117⟩ := h117
              exact J120 _ _ (by omega) (hS117.congr (fun x y z _ _ => Iff.trans or_assoc (or_congr Iff.rfl (by simp only [dsK]; omega))))
          refine z_ild2 E dX0_downStairs_44 ?_
          refine z0_H1 E dX0_downStairs_45 dX0_downStairs_46 dX0_downStairs_49 dX0_downStairs_50 ?_
          refine z_icmp_gt E (by omega) (by omega) 82 dX0_downStairs_51 (by decide) (fun c51 => ?_) (fun c51 => ?_)
          · exact J82 _ _ (by omega) (hS1.congr (fun x y z _ _ => or_congr Iff.rfl (by simp only [dsK]; omega)))
          · refine z_ald0 E dX0_downStairs_54 ?_
            refine z_ic3 E dX0_downStairs_55 ?_
            refine z0_H0 E dX0_downStairs_56 dX0_downStairs_57 dX0_downStairs_60 dX0_downStairs_61 ?_
            refine z_ild2 E dX0_downStairs_62 ?_
            refine z_iadd E dX0_downStairs_63 ?_
            refine z0_H1 E dX0_downStairs_64 dX0_downStairs_65 dX0_downStairs_68 dX0_downStairs_69 ?_
            refine z_ild2 E dX0_downStairs_70 ?_
            refine z_isub E (by omega) dX0_downStairs_71 ?_
            refine z0_H2 E dX0_downStairs_72 dX0_downStairs_73 dX0_downStairs_76 dX0_downStairs_77 ?_
            refine z_ild1 E dX0_downStairs_78 ?_
            refine z0_c_consider E dX0_downStairs_79 (by decide) (Nat.le_of_ble_eq_true rfl) (m0_consider g a b c n1 f1 3 (a + k) (b - k) c al (fun x y z => R x y z ∨ dsK (k + 1) k k a b c x y z) (by omega) (by omega) (by omega) (by omega) (fun e => by omega) hal (by omega) hS1) (fun u79 h79 => ?_)
            obtain ⟨n79, f79, rfl, hn79, hS79⟩ := h79
            exact J82 _ _ (by omega) (hS79.congr (fun x y z _ _ => Iff.trans or_assoc (or_congr Iff.rfl (by simp only [dsK]; omega))))
        refine z_ild2 E dX0_downStairs_8 ?_
        refine z0_H0 E dX0_downStairs_9 dX0_downStairs_10 dX0_downStairs_13 dX0_downStairs_14 ?_
        refine z_icmp_gt E (by omega) (by omega) 44 dX0_downStairs_15 (by decide) (fun c15 => ?_) (fun c15 => ?_)
        · exact J44 _ _ (by omega) (hS.congr (fun x y z _ _ => or_congr Iff.rfl (by simp only [dsK]; omega)))
        · refine z_ald0 E dX0_downStairs_18 ?_
          refine z_ic3 E dX0_downStairs_19 ?_
          refine z0_H0 E dX0_downStairs_20 dX0_downStairs_21 dX0_downStairs_24 dX0_downStairs_25 ?_
          refine z_ild2 E dX0_downStairs_26 ?_
          refine z_isub E (by omega) dX0_downStairs_27 ?_
          refine z0_H1 E dX0_downStairs_28 dX0_downStairs_29 dX0_downStairs_32 dX0_downStairs_33 ?_
          refine z0_H2 E dX0_downStairs_34 dX0_downStairs_35 dX0_downStairs_38 dX0_downStairs_39 ?_
          refine z_ild1 E dX0_downStairs_40 ?_
          refine z0_c_consider E dX0_downStairs_41 (by decide) (Nat.le_of_ble_eq_true rfl) (m0_consider g a b c n' f 3 (a - k) b c al (fun x y z => R x y z ∨ dsK k k k a b c x y z) (by omega) (by omega) (by omega) (by omega) (fun _ => by omega) hal (by omega) hS) (fun u41 h41 => ?_)
          obtain ⟨n41, f41, rfl, hn41, hS41⟩ := h41
          exact J44 _ _ (by omega) (hS41.congr (fun x y z _ _ => Iff.trans or_assoc (or_congr Iff.rfl (by simp only [dsK]; omega))))
  exact L2 16 1 n mv (by omega) (by omega) (by omega) (hK.congr (fun x y z _ _ => ⟨Or.inl, fun h => h.elim id (fun e => by simp only [dsK] at e; omega)⟩)) (by omega)
set_option maxHeartbeats 4000000 in
set_option maxRecDepth 100000 in
theorem m0_equallyMany (g : GG) (a b c n : Nat) (mv : Nat → Nat) (al : Nat) (R : Nat → Nat → Nat → Prop) (ha : a ≤ 15) (hb : b ≤ 15) (hc : c ≤ 15) (hal : al ≤ 1) (hn : n ≤ 700) (hK : SetK n mv R (Kp al 4)) : C0V g yX0_equallyMany cX0_equallyMany 3 4 [.int (nI al)] (a, b, c, n, mv) (fun u => ∃ (n' : Nat) (f' : Nat → Nat), u = (a, b, c, n', f') ∧ n' ≤ n + 15 ∧ SetK n' f' (fun x y z => R x y z ∨ (x < a ∧ y < b ∧ a - x = b - y ∧ z = c)) (Kp al 4)) := by
  refine CtV.of RX0 [some (.ref (go g)), some (.int (nI al)), none] (by decide) rfl (by intro w hw; simp at hw; rcases hw with rfl | rfl <;> rfl) (Nat.le_of_ble_eq_true rfl) rfl ?_
  intro F Q E hR
  refine z_ic1 E dX0_equallyMany_0 ?_
  refine z_ist2 E dX0_equallyMany_1 ?_
  have L2 : ∀ (fuel : Nat) (k n' : Nat) (f : Nat → Nat), (1 ≤ k) → (k ≤ 16) → (n' + 1 ≤ n + k) → (SetK n' f (fun x y z => R x y z ∨ eqK k a b c x y z) (Kp al 4)) → (16 < k + fuel) → Z0 g F Q 3 (a, b, c, n', f) 2 [some (.ref (go g)), some (.int (nI al)), some (.int (nI k))] [] := by
    intro fuel
    induction fuel with
    | zero =>
      intro k n' f h0 h1 h2 hS h3
      exfalso; omega
    | succ fuel ih2 =>
      intro k n' f h0 h1 h2 hS h3
      refine z_ild2 E dX0_equallyMany_2 ?_
      refine z0_H0 E dX0_equallyMany_3 dX0_equallyMany_4 dX0_equallyMany_7 dX0_equallyMany_8 ?_
      refine z_icmp_gt E (by omega) (by omega) 56 dX0_equallyMany_9 (by decide) (fun c9 => ?_) (fun c9 => ?_)
      · exact hR dX0_equallyMany_56 ⟨n', f, rfl, by omega, hS.congr (fun x y z _ _ => or_congr Iff.rfl (by simp only [eqK]; omega))⟩
      · refine z_ild2 E dX0_equallyMany_12 ?_
        refine z0_H1 E dX0_equallyMany_13 dX0_equallyMany_14 dX0_equallyMany_17 dX0_equallyMany_18 ?_
        refine z_icmp_gt E (by omega) (by omega) 56 dX0_equallyMany_19 (by decide) (fun c19 => ?_) (fun c19 => ?_)
        · exact hR dX0_equallyMany_56 ⟨n', f, rfl, by omega, hS.congr (fun x y z _ _ => or_congr Iff.rfl (by simp only [eqK]; omega))⟩
        · refine z_ald0 E dX0_equallyMany_22 ?_
          refine z_ic4 E dX0_equallyMany_23 ?_
          refine z0_H0 E dX0_equallyMany_24 dX0_equallyMany_25 dX0_equallyMany_28 dX0_equallyMany_29 ?_
          refine z_ild2 E dX0_equallyMany_30 ?_
          refine z_isub E (by omega) dX0_equallyMany_31 ?_
          refine z0_H1 E dX0_equallyMany_32 dX0_equallyMany_33 dX0_equallyMany_36 dX0_equallyMany_37 ?_
          refine z_ild2 E dX0_equallyMany_38 ?_
          refine z_isub E (by omega) dX0_equallyMany_39 ?_
          refine z0_H2 E dX0_equallyMany_40 dX0_equallyMany_41 dX0_equallyMany_44 dX0_equallyMany_45 ?_
          refine z_ild1 E dX0_equallyMany_46 ?_
          refine z0_c_consider E dX0_equallyMany_47 (by decide) (Nat.le_of_ble_eq_true rfl) (m0_consider g a b c n' f 4 (a - k) (b - k) c al (fun x y z => R x y z ∨ eqK k a b c x y z) (by omega) (by omega) (by omega) (by omega) (fun _ => by omega) hal (by omega) hS) (fun u47 h47 => ?_)
          obtain ⟨n47, f47, rfl, hn47, hS47⟩ := h47
          refine z_inc2 E dX0_equallyMany_50 ?_
          refine z_goto E 2 dX0_equallyMany_53 (by decide) ?_
          exact ih2 (k + 1) _ _ (by omega) (by omega) (by omega) (hS47.congr (fun x y z _ _ => Iff.trans or_assoc (or_congr Iff.rfl (by simp only [eqK]; omega)))) (by omega)
  exact L2 16 1 n mv (by omega) (by omega) (by omega) (hK.congr (fun x y z _ _ => ⟨Or.inl, fun h => h.elim id (fun e => by simp only [eqK] at e; omega)⟩)) (by omega)
set_option maxHeartbeats 4000000 in
set_option maxRecDepth 100000 in
theorem m0_multiples (g : GG) (a b c n : Nat) (mv : Nat → Nat) (al : Nat) (R : Nat → Nat → Nat → Prop) (ha : a ≤ 15) (hb : b ≤ 15) (hc : c ≤ 15) (hal : al ≤ 1) (hn : n ≤ 700) (hK : SetK n mv R (Kp al 5)) : C0V g yX0_multiples cX0_multiples 5 4 [.int (nI al)] (a, b, c, n, mv) (fun u => ∃ (n' : Nat) (f' : Nat → Nat), u = (a, b, c, n', f') ∧ n' ≤ n + 30 ∧ SetK n' f' (fun x y z => R x y z ∨ mulM a b c x y z) (Kp al 5)) := by
  refine CtV.of RX0 [some (.ref (go g)), some (.int (nI al)), none, none, none] (by decide) rfl (by intro w hw; simp at hw; rcases hw with rfl | rfl <;> rfl) (Nat.le_of_ble_eq_true rfl) rfl ?_
  intro F Q E hR
  refine z0_H0 E dX0_multiples_0 dX0_multiples_1 dX0_multiples_4 dX0_multiples_5 ?_
  refine z_ist2 E dX0_multiples_6 ?_
  refine z0_H1 E dX0_multiples_7 dX0_multiples_8 dX0_multiples_11 dX0_multiples_12 ?_
  refine z_ist3 E dX0_multiples_13 ?_
  refine z_ic1 E dX0_multiples_14 ?_
  refine z_ist4 E dX0_multiples_15 ?_
  have L17 : ∀ (fuel : Nat) (k n' : Nat) (f : Nat → Nat), (1 ≤ k) → (k ≤ 16) → (n' + 2 ≤ n + 2 * k) → (SetK n' f (fun x y z => R x y z ∨ mulK k k a b c x y z) (Kp al 5)) → (16 < k + fuel) → Z0 g F Q 5 (a, b, c, n', f) 17 [some (.ref (go g)), some (.int (nI al)), some (.int (nI a)), some (.int (nI b)), some (.int (nI k))] [] := by
    intro fuel
    induction fuel with
    | zero =>
      intro k n' f h0 h1 h2 hS h3
      exfalso; omega
    | succ fuel ih17 =>
      intro k n' f h0 h1 h2 hS h3
      refine z_ild4 E dX0_multiples_17 ?_
      refine z_bipush E 15 (by decide) dX0_multiples_19 ?_
      refine z_icmp_gt E (by omega) (by omega) 92 dX0_multiples_21 (by decide) (fun c21 => ?_) (fun c21 => ?_)
      · exact hR dX0_multiples_92 ⟨n', f, rfl, by omega, hS.congr (fun x y z _ _ => or_congr Iff.rfl (mulK_end (by omega) ha hb))⟩
      · refine z_ild2 E dX0_multiples_24 ?_
        refine z_if_le E (by omega) 92 dX0_multiples_25 (by decide) (fun c25 => ?_) (fun c25 => ?_)
        · exact hR dX0_multiples_92 ⟨n', f, rfl, by omega, hS.congr (fun x y z _ _ => or_congr Iff.rfl ⟨fun e => by have := e.1; have := e.2.1; omega, fun e => by have := e.1; have := e.2.1; omega⟩)⟩
        · refine z_ild3 E dX0_multiples_28 ?_
          refine z_if_le E (by omega) 92 dX0_multiples_29 (by decide) (fun c29 => ?_) (fun c29 => ?_)
          · exact hR dX0_multiples_92 ⟨n', f, rfl, by omega, hS.congr (fun x y z _ _ => or_congr Iff.rfl ⟨fun e => by have := e.1; have := e.2.1; omega, fun e => by have := e.1; have := e.2.1; omega⟩)⟩
          · have e1 : k * b ≤ 16 * 15 := Nat.mul_le_mul (by omega) (by omega)
            have e2 : k * a ≤ 16 * 15 := Nat.mul_le_mul (by omega) (by omega)
            have J59 : ∀ (n1 : Nat) (f1 : Nat → Nat), (n1 + 1 ≤ n + 2 * k) → (SetK n1 f1 (fun x y z => R x y z ∨ mulK (k + 1) k a b c x y z) (Kp al 5)) → Z0 g F Q 5 (a, b, c, n1, f1) 59 [some (.ref (go g)), some (.int (nI al)), some (.int (nI a)), some (.int (nI b)), some (.int (nI k))] [] := by
              intro n1 f1 hn1 hS1
              have J86 : ∀ (n2 : Nat) (f2 : Nat → Nat), (n2 ≤ n + 2 * k) → (SetK n2 f2 (fun x y z => R x y z ∨ mulK (k + 1) (k + 1) a b c x y z) (Kp al 5)) → Z0 g F Q 5 (a, b, c, n2, f2) 86 [some (.ref (go g)), some (.int (nI al)), some (.int (nI a)), some (.int (nI b)), some (.int (nI k))] [] := by
                intro n2 f2 hn2 hS2
                refine z_inc4 E dX0_multiples_86 ?_
                refine z_goto E 17 dX0_multiples_89 (by decide) ?_
                exact ih17 (k + 1) _ _ (by omega) (by omega) (by omega) hS2 (by omega)
              refine z_ild4 E dX0_multiples_59 ?_
              refine z_ild2 E dX0_multiples_61 ?_
              refine z_imul E dX0_multiples_62 ?_
              refine z_ild3 E dX0_multiples_63 ?_
              refine z_icmp_gt E (by omega) (by omega) 86 dX0_multiples_64 (by decide) (fun c64 => ?_) (fun c64 => ?_)
              · exact J86 _ _ (by omega) (hS1.congr (fun x y z _ _ => or_congr Iff.rfl ⟨fun e => (mulK_2 (by omega) (by omega) (by omega)).mpr (Or.inl e), fun e => ((mulK_2 (by omega) (by omega) (by omega)).mp e).elim id (fun t => by omega)⟩))
              · refine z_ald0 E dX0_multiples_67 ?_
                refine z_ic5 E dX0_multiples_68 ?_
                refine z_ild2 E dX0_multiples_69 ?_
                refine z_ild3 E dX0_multiples_70 ?_
                refine z_ild4 E dX0_multiples_71 ?_
                refine z_ild2 E dX0_multiples_73 ?_
                refine z_imul E dX0_multiples_74 ?_
                refine z_isub E (by omega) dX0_multiples_75 ?_
                refine z0_H2 E dX0_multiples_76 dX0_multiples_77 dX0_multiples_80 dX0_multiples_81 ?_
                refine z_ild1 E dX0_multiples_82 ?_
                refine z0_c_consider E dX0_multiples_83 (by decide) (Nat.le_of_ble_eq_true rfl) (m0_consider g a b c n1 f1 5 a (b - k * a) c al (fun x y z => R x y z ∨ mulK (k + 1) k a b c x y z) (by omega) (by omega) (by omega) (by omega) (fun e => by omega) hal (by omega) hS1) (fun u83 h83 => ?_)
                obtain ⟨n83, f83, rfl, hn83, hS83⟩ := h83
                exact J86 _ _ (by omega) (hS83.congr (fun x y z _ _ => Iff.trans or_assoc (or_congr Iff.rfl ⟨fun e => (mulK_2 (by omega) (by omega) (by omega)).mpr (e.imp id (fun t => ⟨by omega, by omega, by omega, by omega⟩)), fun e => ((mulK_2 (by omega) (by omega) (by omega)).mp e).imp id (fun t => ⟨by omega, by omega, by omega⟩)⟩)))
            refine z_ild4 E dX0_multiples_32 ?_
            refine z_ild3 E dX0_multiples_34 ?_
            refine z_imul E dX0_multiples_35 ?_
            refine z_ild2 E dX0_multiples_36 ?_
            refine z_icmp_gt E (by omega) (by omega) 59 dX0_multiples_37 (by decide) (fun c37 => ?_) (fun c37 => ?_)
            · exact J59 _ _ (by omega) (hS.congr (fun x y z _ _ => or_congr Iff.rfl ⟨fun e => (mulK_1 (by omega) (by omega) (by omega)).mpr (Or.inl e), fun e => ((mulK_1 (by omega) (by omega) (by omega)).mp e).elim id (fun t => by omega)⟩))
            · refine z_ald0 E dX0_multiples_40 ?_
              refine z_ic5 E dX0_multiples_41 ?_
              refine z_ild2 E dX0_multiples_42 ?_
              refine z_ild4 E dX0_multiples_43 ?_
              refine z_ild3 E dX0_multiples_45 ?_
              refine z_imul E dX0_multiples_46 ?_
              refine z_isub E (by omega) dX0_multiples_47 ?_
              refine z_ild3 E dX0_multiples_48 ?_
              refine z0_H2 E dX0_multiples_49 dX0_multiples_50 dX0_multiples_53 dX0_multiples_54 ?_
              refine z_ild1 E dX0_multiples_55 ?_
              refine z0_c_consider E dX0_multiples_56 (by decide) (Nat.le_of_ble_eq_true rfl) (m0_consider g a b c n' f 5 (a - k * b) b c al (fun x y z => R x y z ∨ mulK k k a b c x y z) (by omega) (by omega) (by omega) (by omega) (fun e => by omega) hal (by omega) hS) (fun u56 h56 => ?_)
              obtain ⟨n56, f56, rfl, hn56, hS56⟩ := h56
              exact J59 _ _ (by omega) (hS56.congr (fun x y z _ _ => Iff.trans or_assoc (or_congr Iff.rfl ⟨fun e => (mulK_1 (by omega) (by omega) (by omega)).mpr (e.imp id (fun t => ⟨by omega, by omega, by omega, by omega⟩)), fun e => ((mulK_1 (by omega) (by omega) (by omega)).mp e).imp id (fun t => ⟨by omega, by omega, by omega⟩)⟩)))
  exact L17 16 1 n mv (by omega) (by omega) (by omega) (hK.congr (fun x y z _ _ => ⟨Or.inl, fun h => h.elim id (fun e => absurd e mulK_0)⟩)) (by omega)
set_option maxHeartbeats 4000000 in
set_option maxRecDepth 100000 in
theorem m0_fromSingle (g : GG) (a b c : Nat) (mv : Nat → Nat) (al : Nat) (ha : a ≤ 15) (hb : b ≤ 15) (hc : c ≤ 15) (hal : al ≤ 1) : C0V g yX0_fromSingle cX0_fromSingle 5 2 [.int (nI al)] (a, b, c, 0, mv) (fun u => ∃ (n' : Nat) (f' : Nat → Nat), u = (a, b, c, n', f') ∧ n' ≤ 15 ∧ Srt n' f' ∧ ∀ v, In n' f' v ↔ 1 ≤ v ∧ v ≤ sgl a b ∧ v ≤ c ∧ (al = 1 ∨ wwB (sgl a b - v) (2 * v) = false)) := by
  refine CtV.of RX0 [some (.ref (go g)), some (.int (nI al)), none, none, none] (by decide) rfl (by intro w hw; simp at hw; rcases hw with rfl | rfl <;> rfl) (Nat.le_of_ble_eq_true rfl) rfl ?_
  intro F Q E hR
  refine z_ald0 E dX0_fromSingle_0 ?_
  refine z0_c_single E dX0_fromSingle_1 (by decide) (Nat.le_of_ble_eq_true rfl) (m0_single g a b c 0 mv ha hb) (fun r1 u1 h1 => ?_)
  obtain ⟨rfl, rfl⟩ := h1
  have hsg := sgl_le a b
  refine z_ist2 E dX0_fromSingle_4 ?_
  refine z_ic1 E dX0_fromSingle_5 ?_
  refine z_ist3 E dX0_fromSingle_6 ?_
  have L7 : ∀ (fuel : Nat) (k n' : Nat) (f : Nat → Nat) (o4 : Option Value), (1 ≤ k) → (k ≤ 16) → (k ≤ sgl a b + 1 ∧ k ≤ c + 1) → (n' + 1 ≤ k) → (Srt n' f ∧ ∀ v, In n' f v ↔ 1 ≤ v ∧ v < k ∧ (al = 1 ∨ wwB (sgl a b - v) (2 * v) = false)) → (16 < k + fuel) → Z0 g F Q 5 (a, b, c, n', f) 7 [some (.ref (go g)), some (.int (nI al)), some (.int (nI (sgl a b))), some (.int (nI k)), o4] [] := by
    intro fuel
    induction fuel with
    | zero =>
      intro k n' f o4 h0 h1 hk h2 hS h3
      exfalso; omega
    | succ fuel ih7 =>
      intro k n' f o4 h0 h1 hk h2 hS h3
      refine z_ild3 E dX0_fromSingle_7 ?_
      refine z_ild2 E dX0_fromSingle_8 ?_
      refine z_icmp_gt E (by omega) (by omega) 54 dX0_fromSingle_9 (by decide) (fun c9 => ?_) (fun c9 => ?_)
      · exact hR dX0_fromSingle_54 ⟨n', f, rfl, by omega, hS.1, fun v => (hS.2 v).trans ⟨fun e => ⟨e.1, by omega, by omega, e.2.2⟩, fun e => ⟨e.1, by omega, e.2.2.2⟩⟩⟩
      · refine z_ild3 E dX0_fromSingle_12 ?_
        refine z0_H2 E dX0_fromSingle_13 dX0_fromSingle_14 dX0_fromSingle_17 dX0_fromSingle_18 ?_
        refine z_icmp_gt E (by omega) (by omega) 54 dX0_fromSingle_19 (by decide) (fun c19 => ?_) (fun c19 => ?_)
        · exact hR dX0_fromSingle_54 ⟨n', f, rfl, by omega, hS.1, fun v => (hS.2 v).trans ⟨fun e => ⟨e.1, by omega, by omega, e.2.2⟩, fun e => ⟨e.1, by omega, e.2.2.2⟩⟩⟩
        · refine z_ald0 E dX0_fromSingle_22 ?_
          refine z_ild2 E dX0_fromSingle_23 ?_
          refine z_ild3 E dX0_fromSingle_24 ?_
          refine z_isub E (by omega) dX0_fromSingle_25 ?_
          refine z_ic2 E dX0_fromSingle_26 ?_
          refine z_ild3 E dX0_fromSingle_27 ?_
          refine z_imul E dX0_fromSingle_28 ?_
          refine z0_c_wonWith E dX0_fromSingle_29 (by decide) (Nat.le_of_ble_eq_true rfl) (m0_wonWith g _ (sgl a b - k) (2 * k) (by omega) (by omega)) (fun r29 u29 h29 => ?_)
          obtain ⟨rfl, rfl⟩ := h29
          refine z_ist4 E dX0_fromSingle_32 ?_
          refine z_ild1 E dX0_fromSingle_34 ?_
          have J48 : ∀ (n2 : Nat) (f2 : Nat → Nat), (n2 ≤ k) → (Srt n2 f2 ∧ ∀ v, In n2 f2 v ↔ 1 ≤ v ∧ v < k + 1 ∧ (al = 1 ∨ wwB (sgl a b - v) (2 * v) = false)) → Z0 g F Q 5 (a, b, c, n2, f2) 48 [some (.ref (go g)), some (.int (nI al)), some (.int (nI (sgl a b))), some (.int (nI k)), some (.int (nI (bn (wwB (sgl a b - k) (2 * k)))))] [] := by
            intro n2 f2 hn2 hS2
            refine z_inc3 E dX0_fromSingle_48 ?_
            refine z_goto E 7 dX0_fromSingle_51 (by decide) ?_
            exact ih7 (k + 1) _ _ _ (by omega) (by omega) (by omega) (by omega) hS2 (by omega)
          refine z_if_ne E (by omega) 43 dX0_fromSingle_35 (by decide) (fun c35 => ?_) (fun c35 => ?_)
          · refine z_ald0 E dX0_fromSingle_43 ?_
            refine z_ild3 E dX0_fromSingle_44 ?_
            refine z0_c_keep E dX0_fromSingle_45 (by decide) (Nat.le_of_ble_eq_true rfl) (m0_keep g a b c n' f k hS.1 (by omega) (by omega)) (fun u45 h45 => ?_)
            obtain ⟨n7, f7, rfl, hI⟩ := h45
            have h8 : ∀ v, In n' f v ∨ v = k ↔ 1 ≤ v ∧ v < k + 1 ∧ (al = 1 ∨ wwB (sgl a b - v) (2 * v) = false) := by
              intro v
              rw [hS.2 v]
              constructor
              · rintro (⟨p1, p2, p3⟩ | p1)
                · exact ⟨p1, by omega, p3⟩
                · subst p1; exact ⟨h0, by omega, Or.inl (by omega)⟩
              · rintro ⟨p1, p2, p3⟩
                rcases Nat.lt_or_ge v k with r | r
                · exact Or.inl ⟨p1, r, p3⟩
                · exact Or.inr (by omega)
            exact J48 _ _ (by have := hI.2.1; omega) ⟨hI.1, fun v => (hI.2.2 v).trans (h8 v)⟩
          · refine z_ild4 E dX0_fromSingle_38 ?_
            refine z_if_ne E (by have := bn_le (wwB (sgl a b - k) (2 * k)); omega) 48 dX0_fromSingle_40 (by decide) (fun c40 => ?_) (fun c40 => ?_)
            · have h8 : ∀ v, In n' f v ↔ 1 ≤ v ∧ v < k + 1 ∧ (al = 1 ∨ wwB (sgl a b - v) (2 * v) = false) := by
                intro v
                rw [hS.2 v]
                constructor
                · rintro ⟨p1, p2, p3⟩; exact ⟨p1, by omega, p3⟩
                · rintro ⟨p1, p2, p3⟩
                  refine ⟨p1, ?_, p3⟩
                  rcases Nat.lt_or_ge v k with r | r
                  · exact r
                  · have e : v = k := by omega
                    rw [e, bn_1 c40] at p3
                    rcases p3 with p3 | p3
                    · omega
                    · cases p3
              exact J48 _ _ (by omega) ⟨hS.1, h8⟩
            · refine z_ald0 E dX0_fromSingle_43 ?_
              refine z_ild3 E dX0_fromSingle_44 ?_
              refine z0_c_keep E dX0_fromSingle_45 (by decide) (Nat.le_of_ble_eq_true rfl) (m0_keep g a b c n' f k hS.1 (by omega) (by omega)) (fun u45 h45 => ?_)
              obtain ⟨n7, f7, rfl, hI⟩ := h45
              have h8 : ∀ v, In n' f v ∨ v = k ↔ 1 ≤ v ∧ v < k + 1 ∧ (al = 1 ∨ wwB (sgl a b - v) (2 * v) = false) := by
                intro v
                rw [hS.2 v]
                constructor
                · rintro (⟨p1, p2, p3⟩ | p1)
                  · exact ⟨p1, by omega, p3⟩
                  · subst p1; exact ⟨h0, by omega, Or.inr (bn_0 c40)⟩
                · rintro ⟨p1, p2, p3⟩
                  rcases Nat.lt_or_ge v k with r | r
                  · exact Or.inl ⟨p1, r, p3⟩
                  · exact Or.inr (by omega)
              exact J48 _ _ (by have := hI.2.1; omega) ⟨hI.1, fun v => (hI.2.2 v).trans (h8 v)⟩
  exact L7 16 1 0 mv _ (by omega) (by omega) (by omega) (by omega) ⟨Srt.zero mv, fun v => ⟨fun h => absurd h In.zero, fun h => by omega⟩⟩ (by omega)
end
section
theorem idxN {i : Int32} {n : Nat} (hn : n < 2147483648) (h0 : ¬ i < 0) (h1 : i < nI n) : ∃ j : Nat, j < n ∧ i = nI j := by
  obtain ⟨j, hj, rfl⟩ := nI_of h0
  exact ⟨j, (nI_ltI hj hn).mp h1, rfl⟩
set_option maxHeartbeats 4000000 in
set_option maxRecDepth 100000 in
theorem m0_findMoves (g : GG) (a b c n : Nat) (mv : Nat → Nat) (q al : Nat) (ha : a ≤ 15) (hb : b ≤ 15) (hc : c ≤ 15) (hq : q ≤ 7) (hal : al ≤ 1) : C0V g yX0_findMoves cX0_findMoves 3 5 [.int (nI q), .int (nI al)] (a, b, c, n, mv) (fun u => ∃ (n' : Nat) (f' : Nat → Nat), u = (a, b, c, n', f') ∧ n' ≤ 799 ∧ Srt n' f' ∧ ∀ v, In n' f' v ↔ PM al q a b c v) := by
  refine CtV.of RX0 [some (.ref (go g)), some (.int (nI q)), some (.int (nI al))] (by decide) rfl (by intro w hw; simp at hw; rcases hw with rfl | rfl | rfl <;> rfl) (Nat.le_of_ble_eq_true rfl) rfl ?_
  intro F Q E hR
  refine z_ald0 E dX0_findMoves_0 ?_
  refine z_ic0 E dX0_findMoves_1 ?_
  refine z0_put_found E dX0_findMoves_2 ?_
  refine z_ild1 E dX0_findMoves_5 ?_
  refine z_ic3 E dX0_findMoves_6 ?_
  refine z_icmp_ne E (by omega) (by omega) 18 dX0_findMoves_7 (by decide) (fun c7 => ?_) (fun c7 => ?_)
  · refine z_ild1 E dX0_findMoves_18 ?_
    refine z_ic5 E dX0_findMoves_19 ?_
    refine z_icmp_ne E (by omega) (by omega) 31 dX0_findMoves_20 (by decide) (fun c20 => ?_) (fun c20 => ?_)
    · refine z_ild1 E dX0_findMoves_31 ?_
      refine z_bipush E 6 (by decide) dX0_findMoves_32 ?_
      refine z_icmp_ne E (by omega) (by omega) 45 dX0_findMoves_34 (by decide) (fun c34 => ?_) (fun c34 => ?_)
      · refine z_ald0 E dX0_findMoves_45 ?_
        refine z_ild1 E dX0_findMoves_46 ?_
        refine z_ild1 E dX0_findMoves_47 ?_
        refine z_bipush E 7 (by decide) dX0_findMoves_48 ?_
        refine z_icmp_ne E (by omega) (by omega) 57 dX0_findMoves_50 (by decide) (fun c50 => ?_) (fun c50 => ?_)
        · refine z_bipush E 15 (by decide) dX0_findMoves_57 ?_
          refine z_ild2 E dX0_findMoves_59 ?_
          refine z0_c_fromOne E dX0_findMoves_60 (by decide) (Nat.le_of_ble_eq_true rfl) (m0_fromOne g a b c 0 mv q 15 al (fun _ _ _ => False) ha hb hc hq (by omega) hal (by omega) (SetK.zero mv _)) (fun u60 h60 => ?_)
          obtain ⟨n60, f60, rfl, hn60, hS60⟩ := h60
          refine z_ild1 E dX0_findMoves_63 ?_
          refine z_ic2 E dX0_findMoves_64 ?_
          refine z_icmp_ne E (by omega) (by omega) 86 dX0_findMoves_65 (by decide) (fun c65 => ?_) (fun c65 => ?_)
          · refine z_ild1 E dX0_findMoves_86 ?_
            refine z_ic4 E dX0_findMoves_87 ?_
            refine z_icmp_ne E (by omega) (by omega) 96 dX0_findMoves_88 (by decide) (fun c88 => ?_) (fun c88 => ?_)
            · exact hR dX0_findMoves_96 ⟨n60, f60, rfl, by omega, hS60.1, setK_PM (by omega) (hS60.congr (fun x y z _ _ => by rw [Mv_o (by omega)]; simp only [oneF, oneM, false_or]; omega))⟩
            · obtain rfl : q = 4 := c88
              refine z_ald0 E dX0_findMoves_91 ?_
              refine z_ild2 E dX0_findMoves_92 ?_
              refine z0_c_equallyMany E dX0_findMoves_93 (by decide) (Nat.le_of_ble_eq_true rfl) (m0_equallyMany g a b c _ _ al _ ha hb hc hal (by omega) hS60) (fun u93 h93 => ?_)
              obtain ⟨n93, f93, rfl, hn93, hS93⟩ := h93
              exact hR dX0_findMoves_96 ⟨n93, f93, rfl, by omega, hS93.1, setK_PM (by omega) (hS93.congr (fun x y z _ _ => by rw [Mv_4 rfl]; simp only [oneF, eqM, false_or]; omega))⟩
          · obtain rfl : q = 2 := c65
            refine z_ald0 E dX0_findMoves_68 ?_
            refine z_ic0 E dX0_findMoves_69 ?_
            refine z_ild2 E dX0_findMoves_70 ?_
            refine z0_c_fromTwo E dX0_findMoves_71 (by decide) (Nat.le_of_ble_eq_true rfl) (m0_fromTwo0 g a b c _ _ al _ ha hb hc hal (by omega) hS60) (fun u71 h71 => ?_)
            obtain ⟨n71, f71, rfl, hn71, hS71⟩ := h71
            refine z_ald0 E dX0_findMoves_74 ?_
            refine z_ic1 E dX0_findMoves_75 ?_
            refine z_ild2 E dX0_findMoves_76 ?_
            refine z0_c_fromTwo E dX0_findMoves_77 (by decide) (Nat.le_of_ble_eq_true rfl) (m0_fromTwo1 g a b c _ _ al _ ha hb hc hal (by omega) hS71) (fun u77 h77 => ?_)
            obtain ⟨n77, f77, rfl, hn77, hS77⟩ := h77
            refine z_ald0 E dX0_findMoves_80 ?_
            refine z_ic2 E dX0_findMoves_81 ?_
            refine z_ild2 E dX0_findMoves_82 ?_
            refine z0_c_fromTwo E dX0_findMoves_83 (by decide) (Nat.le_of_ble_eq_true rfl) (m0_fromTwo2 g a b c _ _ al _ ha hb hc hal (by omega) hS77) (fun u83 h83 => ?_)
            obtain ⟨n83, f83, rfl, hn83, hS83⟩ := h83
            refine z_ild1 E dX0_findMoves_86 ?_
            refine z_ic4 E dX0_findMoves_87 ?_
            refine z_icmp_ne E (by omega) (by omega) 96 dX0_findMoves_88 (by decide) (fun c88 => ?_) (fun c88 => ?_)
            · exact hR dX0_findMoves_96 ⟨n83, f83, rfl, by omega, hS83.1, setK_PM (by omega) (hS83.congr (fun x y z _ _ => by rw [Mv_2 rfl]; simp only [oneF, oneM, twoM, false_or]; omega))⟩
            · exfalso; omega
        · refine z_ic3 E dX0_findMoves_53 ?_
          refine z_goto E 59 dX0_findMoves_54 (by decide) ?_
          refine z_ild2 E dX0_findMoves_59 ?_
          refine z0_c_fromOne E dX0_findMoves_60 (by decide) (Nat.le_of_ble_eq_true rfl) (m0_fromOne g a b c 0 mv q 3 al (fun _ _ _ => False) ha hb hc hq (by omega) hal (by omega) (SetK.zero mv _)) (fun u60 h60 => ?_)
          obtain ⟨n60, f60, rfl, hn60, hS60⟩ := h60
          refine z_ild1 E dX0_findMoves_63 ?_
          refine z_ic2 E dX0_findMoves_64 ?_
          refine z_icmp_ne E (by omega) (by omega) 86 dX0_findMoves_65 (by decide) (fun c65 => ?_) (fun c65 => ?_)
          · refine z_ild1 E dX0_findMoves_86 ?_
            refine z_ic4 E dX0_findMoves_87 ?_
            refine z_icmp_ne E (by omega) (by omega) 96 dX0_findMoves_88 (by decide) (fun c88 => ?_) (fun c88 => ?_)
            · exact hR dX0_findMoves_96 ⟨n60, f60, rfl, by omega, hS60.1, setK_PM (by omega) (hS60.congr (fun x y z _ _ => by rw [Mv_7 (by omega)]; simp only [oneF, oneM, false_or]; omega))⟩
            · exfalso; omega
          · exfalso; omega
      · obtain rfl : q = 6 := c34
        refine z_ald0 E dX0_findMoves_37 ?_
        refine z_ild2 E dX0_findMoves_38 ?_
        refine z0_c_fromSingle E dX0_findMoves_39 (by decide) (Nat.le_of_ble_eq_true rfl) (m0_fromSingle g a b c mv al ha hb hc hal) (fun u39 h39 => ?_)
        obtain ⟨n39, f39, rfl, hn39, hS39⟩ := h39
        refine z_goto E 63 dX0_findMoves_42 (by decide) ?_
        refine z_ild1 E dX0_findMoves_63 ?_
        refine z_ic2 E dX0_findMoves_64 ?_
        refine z_icmp_ne E (by omega) (by omega) 86 dX0_findMoves_65 (by decide) (fun c65 => ?_) (fun c65 => ?_)
        · refine z_ild1 E dX0_findMoves_86 ?_
          refine z_ic4 E dX0_findMoves_87 ?_
          refine z_icmp_ne E (by omega) (by omega) 96 dX0_findMoves_88 (by decide) (fun c88 => ?_) (fun c88 => ?_)
          · exact hR dX0_findMoves_96 ⟨n39, f39, rfl, by omega, hS39.1, fun v => (hS39.2 v).trans (by unfold PM; rw [if_pos rfl])⟩
          · exfalso; omega
        · exfalso; omega
    · obtain rfl : q = 5 := c20
      refine z_ald0 E dX0_findMoves_23 ?_
      refine z_ild2 E dX0_findMoves_24 ?_
      refine z0_c_multiples E dX0_findMoves_25 (by decide) (Nat.le_of_ble_eq_true rfl) (m0_multiples g a b c 0 mv al (fun _ _ _ => False) ha hb hc hal (by omega) (SetK.zero mv _)) (fun u25 h25 => ?_)
      obtain ⟨n25, f25, rfl, hn25, hS25⟩ := h25
      refine z_goto E 63 dX0_findMoves_28 (by decide) ?_
      refine z_ild1 E dX0_findMoves_63 ?_
      refine z_ic2 E dX0_findMoves_64 ?_
      refine z_icmp_ne E (by omega) (by omega) 86 dX0_findMoves_65 (by decide) (fun c65 => ?_) (fun c65 => ?_)
      · refine z_ild1 E dX0_findMoves_86 ?_
        refine z_ic4 E dX0_findMoves_87 ?_
        refine z_icmp_ne E (by omega) (by omega) 96 dX0_findMoves_88 (by decide) (fun c88 => ?_) (fun c88 => ?_)
        · exact hR dX0_findMoves_96 ⟨n25, f25, rfl, by omega, hS25.1, setK_PM (by decide) (hS25.congr (fun x y z _ _ => by rw [Mv_5 rfl]; exact ⟨fun h => h.elim False.elim id, Or.inr⟩))⟩
        · exfalso; omega
      · exfalso; omega
  · obtain rfl : q = 3 := c7
    refine z_ald0 E dX0_findMoves_10 ?_
    refine z_ild2 E dX0_findMoves_11 ?_
    refine z0_c_downStairs E dX0_findMoves_12 (by decide) (Nat.le_of_ble_eq_true rfl) (m0_downStairs g a b c 0 mv al (fun _ _ _ => False) ha hb hc hal (by omega) (SetK.zero mv _)) (fun u12 h12 => ?_)
    obtain ⟨n12, f12, rfl, hn12, hS12⟩ := h12
    refine z_goto E 63 dX0_findMoves_15 (by decide) ?_
    refine z_ild1 E dX0_findMoves_63 ?_
    refine z_ic2 E dX0_findMoves_64 ?_
    refine z_icmp_ne E (by omega) (by omega) 86 dX0_findMoves_65 (by decide) (fun c65 => ?_) (fun c65 => ?_)
    · refine z_ild1 E dX0_findMoves_86 ?_
      refine z_ic4 E dX0_findMoves_87 ?_
      refine z_icmp_ne E (by omega) (by omega) 96 dX0_findMoves_88 (by decide) (fun c88 => ?_) (fun c88 => ?_)
      · exact hR dX0_findMoves_96 ⟨n12, f12, rfl, by omega, hS12.1, setK_PM (by decide) (hS12.congr (fun x y z _ _ => by rw [Mv_3 rfl]; exact ⟨fun h => h.elim False.elim id, Or.inr⟩))⟩
      · exfalso; omega
    · exfalso; omega
set_option maxHeartbeats 4000000 in
set_option maxRecDepth 100000 in
theorem m0_moves (g : GG) (a b c n : Nat) (mv : Nat → Nat) (ha : a ≤ 15) (hb : b ≤ 15) (hc : c ≤ 15) (x : Int32) : C0I g yX0_moves cX0_moves 2 .int 6 [.int x] (a, b, c, n, mv) (fun r u => (Bad 7 x ∧ u = (a, b, c, n, mv) ∧ r = -1) ∨ ∃ (q n' : Nat) (f' : Nat → Nat), q ≤ 7 ∧ x = nI q ∧ u = (a, b, c, n', f') ∧ Srt n' f' ∧ (∀ v, In n' f' v ↔ PM 1 q a b c v) ∧ r = nI n') := by
  refine CtI.of RX0 [some (.ref (go g)), some (.int x)] (by decide) rfl (by intro w hw; simp at hw; rcases hw with rfl | rfl <;> rfl) (Nat.le_of_ble_eq_true rfl) rfl ?_
  intro F Q E hR
  refine z_ald0 E dX0_moves_0 ?_
  refine z_ild1 E dX0_moves_1 ?_
  refine z0_c_badGame E dX0_moves_2 (by decide) (Nat.le_of_ble_eq_true rfl) (m0_badGame g _ _) (fun r2 u2 h2 => ?_)
  obtain ⟨rfl, q2, hq2, rfl, hb2, hg2⟩ := h2
  refine z_if_eq E (show q2 < 2147483648 by omega) 10 dX0_moves_5 (by decide) (fun c5 => ?_) (fun c5 => ?_)
  · obtain ⟨q, hq, rfl⟩ := hg2 c5
    refine z_ald0 E dX0_moves_10 ?_
    refine z_ild1 E dX0_moves_11 ?_
    refine z_ic1 E dX0_moves_12 ?_
    refine z0_c_findMoves E dX0_moves_13 (by decide) (Nat.le_of_ble_eq_true rfl) (m0_findMoves g a b c _ _ q 1 ha hb hc hq (by omega)) (fun u13 h13 => ?_)
    obtain ⟨n', f', rfl, hn', hs', hm'⟩ := h13
    refine z_ald0 E dX0_moves_16 ?_
    refine z0_get_found E dX0_moves_17 ?_
    exact hR dX0_moves_20 (Or.inr ⟨q, n', f', hq, rfl, rfl, hs', hm', rfl⟩)
  · refine z_icm1 E dX0_moves_8 ?_
    exact hR dX0_moves_9 (Or.inl ⟨hb2 c5, rfl, rfl⟩)
set_option maxHeartbeats 4000000 in
set_option maxRecDepth 100000 in
theorem m0_winning (g : GG) (a b c n : Nat) (mv : Nat → Nat) (ha : a ≤ 15) (hb : b ≤ 15) (hc : c ≤ 15) (x : Int32) : C0I g yX0_winning cX0_winning 2 .int 6 [.int x] (a, b, c, n, mv) (fun r u => (Bad 7 x ∧ u = (a, b, c, n, mv) ∧ r = -1) ∨ ∃ (q n' : Nat) (f' : Nat → Nat), q ≤ 7 ∧ x = nI q ∧ u = (a, b, c, n', f') ∧ Srt n' f' ∧ (∀ v, In n' f' v ↔ PM 0 q a b c v) ∧ r = nI n') := by
  refine CtI.of RX0 [some (.ref (go g)), some (.int x)] (by decide) rfl (by intro w hw; simp at hw; rcases hw with rfl | rfl <;> rfl) (Nat.le_of_ble_eq_true rfl) rfl ?_
  intro F Q E hR
  refine z_ald0 E dX0_winning_0 ?_
  refine z_ild1 E dX0_winning_1 ?_
  refine z0_c_badGame E dX0_winning_2 (by decide) (Nat.le_of_ble_eq_true rfl) (m0_badGame g _ _) (fun r2 u2 h2 => ?_)
  obtain ⟨rfl, q2, hq2, rfl, hb2, hg2⟩ := h2
  refine z_if_eq E (show q2 < 2147483648 by omega) 10 dX0_winning_5 (by decide) (fun c5 => ?_) (fun c5 => ?_)
  · obtain ⟨q, hq, rfl⟩ := hg2 c5
    refine z_ald0 E dX0_winning_10 ?_
    refine z_ild1 E dX0_winning_11 ?_
    refine z_ic0 E dX0_winning_12 ?_
    refine z0_c_findMoves E dX0_winning_13 (by decide) (Nat.le_of_ble_eq_true rfl) (m0_findMoves g a b c _ _ q 0 ha hb hc hq (by omega)) (fun u13 h13 => ?_)
    obtain ⟨n', f', rfl, hn', hs', hm'⟩ := h13
    refine z_ald0 E dX0_winning_16 ?_
    refine z0_get_found E dX0_winning_17 ?_
    exact hR dX0_winning_20 (Or.inr ⟨q, n', f', hq, rfl, rfl, hs', hm', rfl⟩)
  · refine z_icm1 E dX0_winning_8 ?_
    exact hR dX0_winning_9 (Or.inl ⟨hb2 c5, rfl, rfl⟩)
set_option maxHeartbeats 4000000 in
set_option maxRecDepth 100000 in
theorem m0_winningMove (g : GG) (a b c n : Nat) (mv : Nat → Nat) (ha : a ≤ 15) (hb : b ≤ 15) (hc : c ≤ 15) (x i : Int32) : C0I g yX0_winningMove cX0_winningMove 3 .int 6 [.int x, .int i] (a, b, c, n, mv) (fun r u => (Bad 7 x ∧ u = (a, b, c, n, mv) ∧ r = -1) ∨ ∃ (q n' : Nat) (f' : Nat → Nat), q ≤ 7 ∧ x = nI q ∧ u = (a, b, c, n', f') ∧ Srt n' f' ∧ (∀ v, In n' f' v ↔ PM 0 q a b c v) ∧ (((i < 0 ∨ ¬ i < nI n') ∧ r = -4) ∨ ∃ j, j < n' ∧ i = nI j ∧ r = nI (f' j))) := by
  refine CtI.of RX0 [some (.ref (go g)), some (.int x), some (.int i)] (by decide) rfl (by intro w hw; simp at hw; rcases hw with rfl | rfl | rfl <;> rfl) (Nat.le_of_ble_eq_true rfl) rfl ?_
  intro F Q E hR
  refine z_ald0 E dX0_winningMove_0 ?_
  refine z_ild1 E dX0_winningMove_1 ?_
  refine z0_c_badGame E dX0_winningMove_2 (by decide) (Nat.le_of_ble_eq_true rfl) (m0_badGame g _ _) (fun r2 u2 h2 => ?_)
  obtain ⟨rfl, q2, hq2, rfl, hb2, hg2⟩ := h2
  refine z_if_eq E (show q2 < 2147483648 by omega) 10 dX0_winningMove_5 (by decide) (fun c5 => ?_) (fun c5 => ?_)
  · obtain ⟨q, hq, rfl⟩ := hg2 c5
    refine z_ald0 E dX0_winningMove_10 ?_
    refine z_ild1 E dX0_winningMove_11 ?_
    refine z_ic0 E dX0_winningMove_12 ?_
    refine z0_c_findMoves E dX0_winningMove_13 (by decide) (Nat.le_of_ble_eq_true rfl) (m0_findMoves g a b c _ _ q 0 ha hb hc hq (by omega)) (fun u13 h13 => ?_)
    obtain ⟨n', f', rfl, hn', hs', hm'⟩ := h13
    refine z_ild2 E dX0_winningMove_16 ?_
    refine zr_if_lt E 28 dX0_winningMove_17 (by decide) (fun c17 => ?_) (fun c17 => ?_)
    · refine z_bipushR E (-4) (by decide) dX0_winningMove_28 ?_
      refine z_goto E 39 dX0_winningMove_30 (by decide) ?_
      exact hR dX0_winningMove_39 (Or.inr ⟨q, n', f', hq, rfl, rfl, hs', hm', Or.inl ⟨Or.inl c17, rfl⟩⟩)
    · refine z_ild2 E dX0_winningMove_20 ?_
      refine z_ald0 E dX0_winningMove_21 ?_
      refine z0_get_found E dX0_winningMove_22 ?_
      refine zr_icmp_lt E 33 dX0_winningMove_25 (by decide) (fun c25 => ?_) (fun c25 => ?_)
      · obtain ⟨j, hj, rfl⟩ := idxN (by omega) c17 c25
        refine z_ald0 E dX0_winningMove_33 ?_
        refine z0_get_moves E dX0_winningMove_34 ?_
        refine z_ild2 E dX0_winningMove_37 ?_
        refine z0_ld_moves E (by omega) dX0_winningMove_38 ?_
        exact hR dX0_winningMove_39 (Or.inr ⟨q, n', f', hq, rfl, rfl, hs', hm', Or.inr ⟨j, hj, rfl, rfl⟩⟩)
      · refine z_bipushR E (-4) (by decide) dX0_winningMove_28 ?_
        refine z_goto E 39 dX0_winningMove_30 (by decide) ?_
        exact hR dX0_winningMove_39 (Or.inr ⟨q, n', f', hq, rfl, rfl, hs', hm', Or.inl ⟨Or.inr c25, rfl⟩⟩)
  · refine z_icm1 E dX0_winningMove_8 ?_
    exact hR dX0_winningMove_9 (Or.inl ⟨hb2 c5, rfl, rfl⟩)
set_option maxHeartbeats 4000000 in
set_option maxRecDepth 100000 in
theorem m0_value (g : GG) (a b c n : Nat) (mv : Nat → Nat) (ha : a ≤ 15) (hb : b ≤ 15) (hc : c ≤ 15) (x : Int32) : C0I g yX0_value cX0_value 3 .int 0 [.int x] (a, b, c, n, mv) (fun r u => u = (a, b, c, n, mv) ∧ ((¬ x = 0 ∧ ¬ x = nI 7 ∧ r = -1) ∨ (x = 0 ∧ r = nI (a ^^^ b ^^^ c)) ∨ (x = nI 7 ∧ r = nI ((a ^^^ b ^^^ c) &&& 3)))) := by
  refine CtI.of RX0 [some (.ref (go g)), some (.int x), none] (by decide) rfl (by intro w hw; simp at hw; rcases hw with rfl | rfl <;> rfl) (Nat.le_of_ble_eq_true rfl) rfl ?_
  intro F Q E hR
  refine z_ild1 E dX0_value_0 ?_
  refine zr_if_eq E 12 dX0_value_1 (by decide) (fun c1 => ?_) (fun c1 => ?_)
  · refine z0_H0 E dX0_value_12 dX0_value_13 dX0_value_16 dX0_value_17 ?_
    refine z0_H1 E dX0_value_18 dX0_value_19 dX0_value_22 dX0_value_23 ?_
    refine z_ixor E (by omega) (by omega) dX0_value_24 ?_
    refine z0_H2 E dX0_value_25 dX0_value_26 dX0_value_29 dX0_value_30 ?_
    refine z_ixor E (Nat.lt_of_lt_of_le (Nat.xor_lt_two_pow (n := 6) (show a < 64 by omega) (show b < 64 by omega)) (by decide)) (by omega) dX0_value_31 ?_
    refine z_ist2 E dX0_value_32 ?_
    refine z_ild1 E dX0_value_33 ?_
    refine zr_if_ne E 41 dX0_value_34 (by decide) (fun c34 => ?_) (fun c34 => ?_)
    · exact absurd c1 c34
    · refine z_ild2 E dX0_value_37 ?_
      refine z_goto E 44 dX0_value_38 (by decide) ?_
      exact hR dX0_value_44 ⟨rfl, Or.inr (Or.inl ⟨c1, rfl⟩)⟩
  · refine z_ild1 E dX0_value_4 ?_
    refine z_bipush E 7 (by decide) dX0_value_5 ?_
    refine zr_icmp_eq E 12 dX0_value_7 (by decide) (fun c7 => ?_) (fun c7 => ?_)
    · refine z0_H0 E dX0_value_12 dX0_value_13 dX0_value_16 dX0_value_17 ?_
      refine z0_H1 E dX0_value_18 dX0_value_19 dX0_value_22 dX0_value_23 ?_
      refine z_ixor E (by omega) (by omega) dX0_value_24 ?_
      refine z0_H2 E dX0_value_25 dX0_value_26 dX0_value_29 dX0_value_30 ?_
      refine z_ixor E (Nat.lt_of_lt_of_le (Nat.xor_lt_two_pow (n := 6) (show a < 64 by omega) (show b < 64 by omega)) (by decide)) (by omega) dX0_value_31 ?_
      refine z_ist2 E dX0_value_32 ?_
      refine z_ild1 E dX0_value_33 ?_
      refine zr_if_ne E 41 dX0_value_34 (by decide) (fun c34 => ?_) (fun c34 => ?_)
      · refine z_ild2 E dX0_value_41 ?_
        refine z_ic3 E dX0_value_42 ?_
        refine z_iand E (Nat.lt_of_lt_of_le (Nat.xor_lt_two_pow (n := 6) (Nat.xor_lt_two_pow (n := 6) (show a < 64 by omega) (show b < 64 by omega)) (show c < 64 by omega)) (by decide)) (by omega) dX0_value_43 ?_
        exact hR dX0_value_44 ⟨rfl, Or.inr (Or.inr ⟨c7, rfl⟩)⟩
      · exact absurd c34 c1
    · refine z_icm1 E dX0_value_10 ?_
      exact hR dX0_value_11 ⟨rfl, Or.inl ⟨c1, c7, rfl⟩⟩
set_option maxHeartbeats 4000000 in
set_option maxRecDepth 100000 in
theorem m0_play (g : GG) (a b c n : Nat) (mv : Nat → Nat) (ha : a ≤ 15) (hb : b ≤ 15) (hc : c ≤ 15) (x i : Int32) : C0I g yX0_play cX0_play 4 .int 6 [.int x, .int i] (a, b, c, n, mv) (fun r u => (Bad 7 x ∧ u = (a, b, c, n, mv) ∧ r = -1) ∨ (∃ q, q ≤ 7 ∧ x = nI q ∧ (q = 3 ∨ q = 6) ∧ u = (a, b, c, n, mv) ∧ r = -1) ∨ ∃ (q n' : Nat) (f' : Nat → Nat), q ≤ 7 ∧ q ≠ 3 ∧ q ≠ 6 ∧ x = nI q ∧ Srt n' f' ∧ (∀ v, In n' f' v ↔ PM 0 q a b c v) ∧ (((i < 0 ∨ ¬ i < nI n') ∧ r = -4 ∧ u = (a, b, c, n', f')) ∨ ∃ j, j < n' ∧ i = nI j ∧ u = (f' j % 32, f' j / 32 % 32, f' j / 1024, n', f') ∧ r = nI (bn (wonF q (f' j % 32) (f' j / 32 % 32) (f' j / 1024))))) := by
  refine CtI.of RX0 [some (.ref (go g)), some (.int x), some (.int i), none] (by decide) rfl (by intro w hw; simp at hw; rcases hw with rfl | rfl | rfl <;> rfl) (Nat.le_of_ble_eq_true rfl) rfl ?_
  intro F Q E hR
  refine z_ald0 E dX0_play_0 ?_
  refine z_ild1 E dX0_play_1 ?_
  refine z0_c_badGame E dX0_play_2 (by decide) (Nat.le_of_ble_eq_true rfl) (m0_badGame g _ _) (fun r2 u2 h2 => ?_)
  obtain ⟨rfl, q2, hq2, rfl, hb2, hg2⟩ := h2
  refine z_if_ne E (show q2 < 2147483648 by omega) 19 dX0_play_5 (by decide) (fun c5 => ?_) (fun c5 => ?_)
  · refine z_icm1 E dX0_play_19 ?_
    exact hR dX0_play_20 (Or.inl ⟨hb2 c5, rfl, rfl⟩)
  · obtain ⟨q, hq, rfl⟩ := hg2 c5
    refine z_ild1 E dX0_play_8 ?_
    refine z_ic3 E dX0_play_9 ?_
    refine z_icmp_eq E (by omega) (by omega) 19 dX0_play_10 (by decide) (fun c10 => ?_) (fun c10 => ?_)
    · refine z_icm1 E dX0_play_19 ?_
      exact hR dX0_play_20 (Or.inr (Or.inl ⟨q, hq, rfl, by omega, rfl, rfl⟩))
    · refine z_ild1 E dX0_play_13 ?_
      refine z_bipush E 6 (by decide) dX0_play_14 ?_
      refine z_icmp_ne E (by omega) (by omega) 21 dX0_play_16 (by decide) (fun c16 => ?_) (fun c16 => ?_)
      · refine z_ald0 E dX0_play_21 ?_
        refine z_ild1 E dX0_play_22 ?_
        refine z_ic0 E dX0_play_23 ?_
        refine z0_c_findMoves E dX0_play_24 (by decide) (Nat.le_of_ble_eq_true rfl) (m0_findMoves g a b c _ _ q 0 ha hb hc hq (by omega)) (fun u24 h24 => ?_)
        obtain ⟨n', f', rfl, hn', hs', hm'⟩ := h24
        refine z_ild2 E dX0_play_27 ?_
        refine zr_if_lt E 39 dX0_play_28 (by decide) (fun c28 => ?_) (fun c28 => ?_)
        · refine z_bipushR E (-4) (by decide) dX0_play_39 ?_
          exact hR dX0_play_41 (Or.inr (Or.inr ⟨q, n', f', hq, by omega, by omega, rfl, hs', hm', Or.inl ⟨Or.inl c28, rfl, rfl⟩⟩))
        · refine z_ild2 E dX0_play_31 ?_
          refine z_ald0 E dX0_play_32 ?_
          refine z0_get_found E dX0_play_33 ?_
          refine zr_icmp_lt E 42 dX0_play_36 (by decide) (fun c36 => ?_) (fun c36 => ?_)
          · obtain ⟨j, hj, rfl⟩ := idxN (by omega) c28 c36
            have hfj := hs'.2 j hj
            have hpm := (hm' (f' j)).mp ⟨j, hj, rfl⟩
            unfold PM at hpm
            rw [if_neg (by omega)] at hpm
            have hle := Mv_le (by omega) hpm.1
            refine z_ald0 E dX0_play_42 ?_
            refine z0_get_moves E dX0_play_43 ?_
            refine z_ild2 E dX0_play_46 ?_
            refine z0_ld_moves E (by omega) dX0_play_47 ?_
            refine z_ist3 E dX0_play_48 ?_
            refine z_ald0 E dX0_play_49 ?_
            refine z0_get_heaps E dX0_play_50 ?_
            refine z_ic0 E dX0_play_53 ?_
            refine z_ild3 E dX0_play_54 ?_
            refine z_bipush E 31 (by decide) dX0_play_55 ?_
            refine z_iand E (by omega) (by omega) dX0_play_57 ?_
            refine z_topN (f' j % 32) (Nat.and_two_pow_sub_one_eq_mod _ 5) ?_
            refine z0_hset0 E dX0_play_58 ?_
            refine z_ald0 E dX0_play_59 ?_
            refine z0_get_heaps E dX0_play_60 ?_
            refine z_ic1 E dX0_play_63 ?_
            refine z_ild3 E dX0_play_64 ?_
            refine z_ic5 E dX0_play_65 ?_
            refine z_ishr E (f' j / 32) (pk_shrN (show f' j < 2 ^ 31 by omega) (nI 5 &&& 31) 5 (by decide)) dX0_play_66 ?_
            refine z_bipush E 31 (by decide) dX0_play_67 ?_
            refine z_iand E (by omega) (by omega) dX0_play_69 ?_
            refine z_topN (f' j / 32 % 32) (Nat.and_two_pow_sub_one_eq_mod _ 5) ?_
            refine z0_hset1 E dX0_play_70 ?_
            refine z_ald0 E dX0_play_71 ?_
            refine z0_get_heaps E dX0_play_72 ?_
            refine z_ic2 E dX0_play_75 ?_
            refine z_ild3 E dX0_play_76 ?_
            refine z_bipush E 10 (by decide) dX0_play_77 ?_
            refine z_ishr E (f' j / 1024) (pk_shrN (show f' j < 2 ^ 31 by omega) (nI 10 &&& 31) 10 (by decide)) dX0_play_79 ?_
            refine z0_hset2 E dX0_play_80 ?_
            refine z_ald0 E dX0_play_81 ?_
            refine z_ild1 E dX0_play_82 ?_
            refine z0_c_won E dX0_play_83 (by decide) (Nat.le_of_ble_eq_true rfl) (m0_won g _ _ _ _ _ (by omega) (by omega) (by omega) (nI q)) (fun r83 u83 h83 => ?_)
            obtain ⟨q9, hq9, e9, rfl, rfl⟩ := h83.resolve_left (fun h => notBad (by decide) hq h.1)
            obtain rfl := (nI_eq (by omega) (by omega)).mp e9
            exact hR dX0_play_86 (Or.inr (Or.inr ⟨q, n', f', hq, by omega, by omega, rfl, hs', hm', Or.inr ⟨j, hj, rfl, rfl, rfl⟩⟩))
          · refine z_bipushR E (-4) (by decide) dX0_play_39 ?_
            exact hR dX0_play_41 (Or.inr (Or.inr ⟨q, n', f', hq, by omega, by omega, rfl, hs', hm', Or.inl ⟨Or.inr c36, rfl, rfl⟩⟩))
      · refine z_icm1 E dX0_play_19 ?_
        exact hR dX0_play_20 (Or.inr (Or.inl ⟨q, hq, rfl, by omega, rfl, rfl⟩))
end
section
/-! PURE LAYER for the reference: lists of positions -/
def Lst (n : Nat) (X Y Z : Nat → Nat) (P : Nat → Nat → Nat → Prop) : Prop :=
  (∀ i j, i < j → j < n → ¬ (X i = X j ∧ Y i = Y j ∧ Z i = Z j)) ∧ ∀ x y z, P x y z ↔ ∃ k, k < n ∧ X k = x ∧ Y k = y ∧ Z k = z
theorem Lst.zero (X Y Z : Nat → Nat) {P : Nat → Nat → Nat → Prop} (h : ∀ x y z, ¬ P x y z) : Lst 0 X Y Z P :=
  ⟨fun i j _ h2 => by omega, fun x y z => ⟨fun q => absurd q (h x y z), fun ⟨k, h1, _⟩ => by omega⟩⟩
theorem Lst.congr {n : Nat} {X Y Z : Nat → Nat} {P P' : Nat → Nat → Nat → Prop} (h : Lst n X Y Z P) (e : ∀ x y z, P x y z ↔ P' x y z) : Lst n X Y Z P' :=
  ⟨h.1, fun x y z => (e x y z).symm.trans (h.2 x y z)⟩
theorem Lst.put {n x y z : Nat} {X Y Z : Nat → Nat} {P : Nat → Nat → Nat → Prop} (h : Lst n X Y Z P) (hn : ¬ P x y z) : Lst (n + 1) (upN X n x) (upN Y n y) (upN Z n z) (fun x' y' z' => P x' y' z' ∨ (x' = x ∧ y' = y ∧ z' = z)) := by
  refine ⟨fun i j h1 h2 => ?_, fun x' y' z' => ?_⟩
  · rw [upN_n (show i ≠ n by omega), upN_n (show i ≠ n by omega), upN_n (show i ≠ n by omega)]
    rcases Nat.lt_or_ge j n with q | q
    · rw [upN_n (show j ≠ n by omega), upN_n (show j ≠ n by omega), upN_n (show j ≠ n by omega)]
      exact h.1 i j h1 q
    · have e : j = n := by omega
      subst e
      rw [upN_s, upN_s, upN_s]
      exact fun t => hn ((h.2 x y z).mpr ⟨i, h1, t.1, t.2.1, t.2.2⟩)
  · show (P x' y' z' ∨ (x' = x ∧ y' = y ∧ z' = z)) ↔ _
    rw [h.2 x' y' z']
    constructor
    · rintro (⟨k, h1, h2, h3, h4⟩ | ⟨rfl, rfl, rfl⟩)
      · exact ⟨k, by omega, by rw [upN_n (by omega)]; exact h2, by rw [upN_n (by omega)]; exact h3, by rw [upN_n (by omega)]; exact h4⟩
      · exact ⟨n, by omega, upN_s, upN_s, upN_s⟩
    · rintro ⟨k, h1, h2, h3, h4⟩
      rcases Nat.lt_or_ge k n with q | q
      · rw [upN_n (show k ≠ n by omega)] at h2 h3 h4
        exact Or.inl ⟨k, q, h2, h3, h4⟩
      · have e : k = n := by omega
        subst e
        rw [upN_s] at h2 h3 h4
        exact Or.inr ⟨h2.symm, h3.symm, h4.symm⟩
section ORS
variable {A A' B1 B2 B3 B4 B5 R E : Prop}
theorem orC0 (h : A ∨ E ↔ A') : ((A ∨ R) ∨ E) ↔ (A' ∨ R) := or_right_comm.trans (or_congr h Iff.rfl)
theorem orC1 (h : A ∨ E ↔ A') : ((B1 ∨ A ∨ R) ∨ E) ↔ (B1 ∨ A' ∨ R) := or_assoc.trans (or_congr Iff.rfl (orC0 h))
theorem orC2 (h : A ∨ E ↔ A') : ((B1 ∨ B2 ∨ A ∨ R) ∨ E) ↔ (B1 ∨ B2 ∨ A' ∨ R) := or_assoc.trans (or_congr Iff.rfl (orC1 h))
theorem orC3 (h : A ∨ E ↔ A') : ((B1 ∨ B2 ∨ B3 ∨ A ∨ R) ∨ E) ↔ (B1 ∨ B2 ∨ B3 ∨ A' ∨ R) := or_assoc.trans (or_congr Iff.rfl (orC2 h))
theorem orC4 (h : A ∨ E ↔ A') : ((B1 ∨ B2 ∨ B3 ∨ B4 ∨ A ∨ R) ∨ E) ↔ (B1 ∨ B2 ∨ B3 ∨ B4 ∨ A' ∨ R) := or_assoc.trans (or_congr Iff.rfl (orC3 h))
theorem orL0 (h : A ∨ E ↔ A') : (A ∨ E) ↔ A' := h
theorem orL1 (h : A ∨ E ↔ A') : ((B1 ∨ A) ∨ E) ↔ (B1 ∨ A') := or_assoc.trans (or_congr Iff.rfl h)
theorem orL2 (h : A ∨ E ↔ A') : ((B1 ∨ B2 ∨ A) ∨ E) ↔ (B1 ∨ B2 ∨ A') := or_assoc.trans (or_congr Iff.rfl (orL1 h))
theorem orL5 (h : A ∨ E ↔ A') : ((B1 ∨ B2 ∨ B3 ∨ B4 ∨ B5 ∨ A) ∨ E) ↔ (B1 ∨ B2 ∨ B3 ∨ B4 ∨ B5 ∨ A') := or_assoc.trans (or_congr Iff.rfl (or_assoc.trans (or_congr Iff.rfl (or_assoc.trans (or_congr Iff.rfl (orL2 h))))))
theorem orD0 (h : A ↔ A') : (A ∨ R) ↔ (A' ∨ R) := or_congr h Iff.rfl
theorem orD1 (h : A ↔ A') : (B1 ∨ A ∨ R) ↔ (B1 ∨ A' ∨ R) := or_congr Iff.rfl (orD0 h)
theorem orD2 (h : A ↔ A') : (B1 ∨ B2 ∨ A ∨ R) ↔ (B1 ∨ B2 ∨ A' ∨ R) := or_congr Iff.rfl (orD1 h)
theorem orD3 (h : A ↔ A') : (B1 ∨ B2 ∨ B3 ∨ A ∨ R) ↔ (B1 ∨ B2 ∨ B3 ∨ A' ∨ R) := or_congr Iff.rfl (orD2 h)
theorem orD4 (h : A ↔ A') : (B1 ∨ B2 ∨ B3 ∨ B4 ∨ A ∨ R) ↔ (B1 ∨ B2 ∨ B3 ∨ B4 ∨ A' ∨ R) := or_congr Iff.rfl (orD3 h)
theorem orM1 (h : A ↔ A') : (B1 ∨ A) ↔ (B1 ∨ A') := or_congr Iff.rfl h
theorem orM2 (h : A ↔ A') : (B1 ∨ B2 ∨ A) ↔ (B1 ∨ B2 ∨ A') := or_congr Iff.rfl (orM1 h)
theorem orM5 (h : A ↔ A') : (B1 ∨ B2 ∨ B3 ∨ B4 ∨ B5 ∨ A) ↔ (B1 ∨ B2 ∨ B3 ∨ B4 ∨ B5 ∨ A') := or_congr Iff.rfl (or_congr Iff.rfl (or_congr Iff.rfl (orM2 h)))
end ORS
def sA (k x y z x' y' z' : Nat) : Prop := x' < x ∧ x - x' < k ∧ y' = y ∧ z' = z
def sB (k x y z x' y' z' : Nat) : Prop := x' = x ∧ y' < y ∧ y - y' < k ∧ z' = z
def sC (k x y z x' y' z' : Nat) : Prop := x' = x ∧ y' = y ∧ z' < z ∧ z - z' < k
def dA (q k m x y z x' y' z' : Nat) : Prop := q = 2 ∧ x' < x ∧ y' < y ∧ z' = z ∧ (x - x' < k ∨ (x - x' = k ∧ y - y' < m))
def dB (q k m x y z x' y' z' : Nat) : Prop := q = 2 ∧ x' < x ∧ y' = y ∧ z' < z ∧ (x - x' < k ∨ (x - x' = k ∧ z - z' < m))
def dC (q k m x y z x' y' z' : Nat) : Prop := q = 2 ∧ x' = x ∧ y' < y ∧ z' < z ∧ (y - y' < k ∨ (y - y' = k ∧ z - z' < m))
def SP (q k1 k2 k3 k m1 m2 m3 x y z x' y' z' : Nat) : Prop := sA k1 x y z x' y' z' ∨ sB k2 x y z x' y' z' ∨ sC k3 x y z x' y' z' ∨ dA q k m1 x y z x' y' z' ∨ dB q k m2 x y z x' y' z' ∨ dC q k m3 x y z x' y' z'
theorem SP_0 {q x y z x' y' z' : Nat} : ¬ SP q 1 1 1 1 1 1 1 x y z x' y' z' := by
  intro h
  rcases h with h | h | h | h | h | h
  · simp only [sA] at h; omega
  · simp only [sB] at h; omega
  · simp only [sC] at h; omega
  · simp only [dA] at h; omega
  · simp only [dB] at h; omega
  · simp only [dC] at h; omega
theorem SP_row {q k x y z x' y' z' : Nat} (hy : y ≤ 15) (hz : z ≤ 15) (hk : 1 ≤ k) (m : Nat) (hm : q = 2 → 15 < m) (hm1 : 1 ≤ m) : SP q (k + 1) (k + 1) (k + 1) k m m m x y z x' y' z' ↔ SP q (k + 1) (k + 1) (k + 1) (k + 1) 1 1 1 x y z x' y' z' := by
  unfold SP
  refine or_congr Iff.rfl (or_congr Iff.rfl (or_congr Iff.rfl (or_congr ?_ (or_congr ?_ ?_))))
  · simp only [dA]; omega
  · simp only [dB]; omega
  · simp only [dC]; omega
theorem SP_end {q k m x y z x' y' z' : Nat} (hx : x ≤ 15) (hy : y ≤ 15) (hz : z ≤ 15) (hq : q = 0 ∨ q = 1 ∨ q = 2 ∨ q = 7) (hm : (q = 7 ∧ m = 3) ∨ (q ≠ 7 ∧ m = 15)) (hk : k = m + 1) : SP q k k k k 1 1 1 x y z x' y' z' ↔ Mv q x y z x' y' z' := by
  subst hk
  have e : SP q (m + 1) (m + 1) (m + 1) (m + 1) 1 1 1 x y z x' y' z' ↔ oneM m x y z x' y' z' ∨ (q = 2 ∧ twoM x y z x' y' z') := by
    constructor
    · intro h
      rcases h with h | h | h | h | h | h
      · left; simp only [sA] at h; simp only [oneM]; omega
      · left; simp only [sB] at h; simp only [oneM]; omega
      · left; simp only [sC] at h; simp only [oneM]; omega
      · right; simp only [dA] at h; simp only [twoM]; omega
      · right; simp only [dB] at h; simp only [twoM]; omega
      · right; simp only [dC] at h; simp only [twoM]; omega
    · rintro (h | ⟨h0, h⟩)
      · rcases h with h | h | h
        · left; simp only [sA]; omega
        · right; left; simp only [sB]; omega
        · right; right; left; simp only [sC]; omega
      · rcases h with h | h | h
        · right; right; right; left; simp only [dA]; omega
        · right; right; right; right; left; simp only [dB]; omega
        · right; right; right; right; right; simp only [dC]; omega
  rw [e]
  rcases hm with ⟨rfl, rfl⟩ | ⟨h7, rfl⟩
  · rw [Mv_7 rfl]; constructor
    · rintro (h | ⟨h, _⟩)
      · exact h
      · exact absurd h (by decide)
    · exact Or.inl
  · rcases hq with rfl | rfl | rfl | rfl
    · rw [Mv_o (by omega)]; constructor
      · rintro (h | ⟨h, _⟩)
        · exact h
        · exact absurd h (by decide)
      · exact Or.inl
    · rw [Mv_o (by omega)]; constructor
      · rintro (h | ⟨h, _⟩)
        · exact h
        · exact absurd h (by decide)
      · exact Or.inl
    · rw [Mv_2 rfl]
      exact or_congr Iff.rfl ⟨fun h => h.2, fun h => ⟨rfl, h⟩⟩
    · exact absurd rfl h7
def pA (k x y z x' y' z' : Nat) : Prop := z' < z ∧ z - z' < k ∧ y' = y + (z - z') ∧ x' = x
def pB (k x y z x' y' z' : Nat) : Prop := y' < y ∧ y - y' < k ∧ x' = x + (y - y') ∧ z' = z
def eC (k x y z x' y' z' : Nat) : Prop := x' < x ∧ y' < y ∧ x - x' = y - y' ∧ x - x' < k ∧ z' = z
theorem mulK_new1 {t s x y z : Nat} (ht : 1 ≤ t) (hy : 0 < y) (h : t * y ≤ x) : ¬ mulK t s x y z (x - t * y) y z := by
  rintro ⟨h1, h2, h3, ⟨h4, u, h5, h6, h7, h8⟩ | ⟨h4, _⟩⟩
  · have : (u + 1) * y ≤ t * y := Nat.mul_le_mul_right y h6
    rw [Nat.add_mul, Nat.one_mul] at this
    omega
  · have : 1 * y ≤ t * y := Nat.mul_le_mul_right y ht
    omega
theorem mulK_new2 {t s x y z : Nat} (ht : 1 ≤ t) (hx : 0 < x) (h : t * x ≤ y) : ¬ mulK s t x y z x (y - t * x) z := by
  rintro ⟨h1, h2, h3, ⟨h4, _⟩ | ⟨h4, u, h5, h6, h7, h8⟩⟩
  · have : 1 * x ≤ t * x := Nat.mul_le_mul_right x ht
    omega
  · have : (u + 1) * x ≤ t * x := Nat.mul_le_mul_right x h6
    rw [Nat.add_mul, Nat.one_mul] at this
    omega
theorem mulK_fin {t x y z x' y' z' lo hi : Nat} (hl : (x < y ∧ lo = x ∧ hi = y) ∨ (y ≤ x ∧ lo = y ∧ hi = x)) (h0 : 0 < lo) (ht : hi < t * lo) : mulK t t x y z x' y' z' ↔ mulM x y z x' y' z' := by
  constructor
  · rintro ⟨h1, h2, h3, ⟨h4, u, h5, _, h6⟩ | ⟨h4, u, h5, _, h6⟩⟩
    · exact ⟨h1, h2, h3, Or.inl ⟨h4, u, h5, h6⟩⟩
    · exact ⟨h1, h2, h3, Or.inr ⟨h4, u, h5, h6⟩⟩
  · rintro ⟨h1, h2, h3, ⟨h4, u, h5, h6⟩ | ⟨h4, u, h5, h6⟩⟩
    · refine ⟨h1, h2, h3, Or.inl ⟨h4, u, h5, ?_, h6⟩⟩
      rcases Nat.lt_or_ge u t with q | q
      · exact q
      · have e1 : t * lo ≤ u * lo := Nat.mul_le_mul_right lo q
        have e2 : u * lo ≤ u * y := Nat.mul_le_mul_left u (by omega)
        omega
    · refine ⟨h1, h2, h3, Or.inr ⟨h4, u, h5, ?_, h6⟩⟩
      rcases Nat.lt_or_ge u t with q | q
      · exact q
      · have e1 : t * lo ≤ u * lo := Nat.mul_le_mul_right lo q
        have e2 : u * lo ≤ u * x := Nat.mul_le_mul_left u (by omega)
        omega
end
section
set_option maxHeartbeats 4000000 in
set_option maxRecDepth 100000 in
theorem m1_noGame (g : GG) (st : S1) (x : Int32) : C1I g yX1_noGame cX1_noGame 2 .boolean 0 [.int x] st (fun r u => u = st ∧ ∃ q, q ≤ 1 ∧ r = nI q ∧ (q ≠ 0 → Bad 7 x) ∧ (q = 0 → ∃ k : Nat, k ≤ 7 ∧ x = nI k)) := by
  refine CtI.ofz RX1 [some (.ref (go g)), some (.int x)] (by decide) rfl (by intro w hw; simp at hw; rcases hw with rfl | rfl <;> rfl) (Nat.le_of_ble_eq_true rfl) rfl ?_
  intro F Q E hR
  refine z_ild1 E dX1_noGame_0 ?_
  refine zr_if_lt E 10 dX1_noGame_1 (by decide) (fun c1 => ?_) (fun c1 => ?_)
  · refine z_ic1 E dX1_noGame_10 ?_
    refine z_goto E 15 dX1_noGame_11 (by decide) ?_
    exact hR dX1_noGame_15 (by decide) ⟨rfl, 1, by decide, rfl, fun _ => Or.inl c1, fun h => absurd h (by decide)⟩
  · refine z_ild1 E dX1_noGame_4 ?_
    refine z_bipush E 7 (by decide) dX1_noGame_5 ?_
    refine zr_icmp_le E 14 dX1_noGame_7 (by decide) (fun c7 => ?_) (fun c7 => ?_)
    · refine z_ic0 E dX1_noGame_14 ?_
      exact hR dX1_noGame_15 (by decide) ⟨rfl, 0, by decide, rfl, fun h => absurd rfl h, fun _ => goodN (by decide) c1 c7⟩
    · refine z_ic1 E dX1_noGame_10 ?_
      refine z_goto E 15 dX1_noGame_11 (by decide) ?_
      exact hR dX1_noGame_15 (by decide) ⟨rfl, 1, by decide, rfl, fun _ => Or.inr c7, fun h => absurd h (by decide)⟩
theorem i32_nle {x y : Int32} (h : y < x) : ¬ x ≤ y := by
  intro q
  rw [Int32.lt_iff_toInt_lt] at h
  rw [Int32.le_iff_toInt_le] at q
  omega
theorem i32_le {x y : Int32} (h : ¬ y < x) : x ≤ y := by
  rw [Int32.lt_iff_toInt_lt] at h
  rw [Int32.le_iff_toInt_le]
  omega
set_option maxHeartbeats 4000000 in
set_option maxRecDepth 100000 in
theorem m1_heap (g : GG) (a b c n : Nat) (X Y U W V K M : Nat → Nat) (d : Nat) (N : Nat → Nat) (i k : Int32) : C1I g yX1_heap cX1_heap 4 .int 1 [.int i, .int k] (a, b, c, n, X, Y, U, W, V, K, M, d, N) (fun r u => (r = -1 ∧ u = (a, b, c, n, X, Y, U, W, V, K, M, d, N) ∧ (Bad 2 i ∨ Bad 15 k)) ∨ ∃ j v : Nat, j ≤ 2 ∧ v ≤ 15 ∧ i = nI j ∧ k = nI v ∧ r = nI (hN a b c j) ∧ u = (upN (hN a b c) j v 0, upN (hN a b c) j v 1, upN (hN a b c) j v 2, n, X, Y, U, W, V, K, M, d, N)) := by
  refine CtI.of RX1 [some (.ref (go g)), some (.int i), some (.int k), none] (by decide) rfl (by intro w hw; simp at hw; rcases hw with rfl | rfl | rfl <;> rfl) (Nat.le_of_ble_eq_true rfl) rfl ?_
  intro F Q E hR
  refine z_ild1 E dX1_heap_0 ?_
  refine zr_if_lt E 19 dX1_heap_1 (by decide) (fun c1 => ?_) (fun c1 => ?_)
  · refine z_icm1 E dX1_heap_19 ?_
    exact hR dX1_heap_20 (Or.inl ⟨rfl, rfl, Or.inl (Or.inl c1)⟩)
  · refine z_ild1 E dX1_heap_4 ?_
    refine z_ic2 E dX1_heap_5 ?_
    refine zr_icmp_gt E 19 dX1_heap_6 (by decide) (fun c6 => ?_) (fun c6 => ?_)
    · refine z_icm1 E dX1_heap_19 ?_
      exact hR dX1_heap_20 (Or.inl ⟨rfl, rfl, Or.inl (Or.inr (i32_nle c6))⟩)
    · refine z_ild2 E dX1_heap_9 ?_
      refine zr_if_lt E 19 dX1_heap_10 (by decide) (fun c10 => ?_) (fun c10 => ?_)
      · refine z_icm1 E dX1_heap_19 ?_
        exact hR dX1_heap_20 (Or.inl ⟨rfl, rfl, Or.inr (Or.inl c10)⟩)
      · refine z_ild2 E dX1_heap_13 ?_
        refine z_bipush E 15 (by decide) dX1_heap_14 ?_
        refine zr_icmp_le E 21 dX1_heap_16 (by decide) (fun c16 => ?_) (fun c16 => ?_)
        · (obtain ⟨j, hj, rfl⟩ := goodN (by decide) c1 (i32_le c6); obtain ⟨v, hv, rfl⟩ := goodN (by decide) c10 c16; rcases (show j = 0 ∨ j = 1 ∨ j = 2 by omega) with rfl | rfl | rfl)
          · refine z_ald0 E dX1_heap_21 ?_
            refine z1_get_heaps E dX1_heap_22 ?_
            refine z_ild1 E dX1_heap_25 ?_
            refine z1_h0 E dX1_heap_26 ?_
            refine z_ist3 E dX1_heap_27 ?_
            refine z_ald0 E dX1_heap_28 ?_
            refine z1_get_heaps E dX1_heap_29 ?_
            refine z_ild1 E dX1_heap_32 ?_
            refine z_ild2 E dX1_heap_33 ?_
            refine z1_hset0 E dX1_heap_34 ?_
            refine z_ild3 E dX1_heap_35 ?_
            exact hR dX1_heap_36 (Or.inr ⟨0, v, by decide, hv, rfl, rfl, rfl, rfl⟩)
          · refine z_ald0 E dX1_heap_21 ?_
            refine z1_get_heaps E dX1_heap_22 ?_
            refine z_ild1 E dX1_heap_25 ?_
            refine z1_h1 E dX1_heap_26 ?_
            refine z_ist3 E dX1_heap_27 ?_
            refine z_ald0 E dX1_heap_28 ?_
            refine z1_get_heaps E dX1_heap_29 ?_
            refine z_ild1 E dX1_heap_32 ?_
            refine z_ild2 E dX1_heap_33 ?_
            refine z1_hset1 E dX1_heap_34 ?_
            refine z_ild3 E dX1_heap_35 ?_
            exact hR dX1_heap_36 (Or.inr ⟨1, v, by decide, hv, rfl, rfl, rfl, rfl⟩)
          · refine z_ald0 E dX1_heap_21 ?_
            refine z1_get_heaps E dX1_heap_22 ?_
            refine z_ild1 E dX1_heap_25 ?_
            refine z1_h2 E dX1_heap_26 ?_
            refine z_ist3 E dX1_heap_27 ?_
            refine z_ald0 E dX1_heap_28 ?_
            refine z1_get_heaps E dX1_heap_29 ?_
            refine z_ild1 E dX1_heap_32 ?_
            refine z_ild2 E dX1_heap_33 ?_
            refine z1_hset2 E dX1_heap_34 ?_
            refine z_ild3 E dX1_heap_35 ?_
            exact hR dX1_heap_36 (Or.inr ⟨2, v, by decide, hv, rfl, rfl, rfl, rfl⟩)
        · refine z_icm1 E dX1_heap_19 ?_
          exact hR dX1_heap_20 (Or.inl ⟨rfl, rfl, Or.inr (Or.inr c16)⟩)
set_option maxHeartbeats 4000000 in
set_option maxRecDepth 100000 in
theorem m1_has (g : GG) (a b c n : Nat) (X Y U W V K M : Nat → Nat) (d : Nat) (N : Nat → Nat) (i : Int32) : C1I g yX1_has cX1_has 2 .int 1 [.int i] (a, b, c, n, X, Y, U, W, V, K, M, d, N) (fun r u => u = (a, b, c, n, X, Y, U, W, V, K, M, d, N) ∧ ((r = -1 ∧ Bad 2 i) ∨ ∃ j : Nat, j ≤ 2 ∧ i = nI j ∧ r = nI (hN a b c j))) := by
  refine CtI.of RX1 [some (.ref (go g)), some (.int i)] (by decide) rfl (by intro w hw; simp at hw; rcases hw with rfl | rfl <;> rfl) (Nat.le_of_ble_eq_true rfl) rfl ?_
  intro F Q E hR
  refine z_ild1 E dX1_has_0 ?_
  refine zr_if_lt E 9 dX1_has_1 (by decide) (fun c1 => ?_) (fun c1 => ?_)
  · refine z_icm1 E dX1_has_9 ?_
    refine z_goto E 19 dX1_has_10 (by decide) ?_
    exact hR dX1_has_19 ⟨rfl, Or.inl ⟨rfl, Or.inl c1⟩⟩
  · refine z_ild1 E dX1_has_4 ?_
    refine z_ic2 E dX1_has_5 ?_
    refine zr_icmp_le E 13 dX1_has_6 (by decide) (fun c6 => ?_) (fun c6 => ?_)
    · obtain ⟨j, hj, rfl⟩ := goodN (by decide) c1 c6
      refine z_ald0 E dX1_has_13 ?_
      refine z1_get_heaps E dX1_has_14 ?_
      refine z_ild1 E dX1_has_17 ?_
      refine z1_hi E (by omega) dX1_has_18 ?_
      exact hR dX1_has_19 ⟨rfl, Or.inr ⟨j, hj, rfl, rfl⟩⟩
    · refine z_icm1 E dX1_has_9 ?_
      refine z_goto E 19 dX1_has_10 (by decide) ?_
      exact hR dX1_has_19 ⟨rfl, Or.inl ⟨rfl, Or.inr c6⟩⟩
set_option maxHeartbeats 4000000 in
set_option maxRecDepth 100000 in
theorem m1_key (g : GG) (st : S1) (x y z : Nat) : C1I g yX1_key cX1_key 4 .int 0 [.int (nI x), .int (nI y), .int (nI z)] st (fun r u => u = st ∧ r = nI ((z * 31 + y) * 46 + x)) := by
  refine CtI.of RX1 [some (.ref (go g)), some (.int (nI x)), some (.int (nI y)), some (.int (nI z))] (by decide) rfl (by intro w hw; simp at hw; rcases hw with rfl | rfl | rfl | rfl <;> rfl) (Nat.le_of_ble_eq_true rfl) rfl ?_
  intro F Q E hR
  refine z_ild3 E dX1_key_0 ?_
  refine z_bipush E 31 (by decide) dX1_key_1 ?_
  refine z_imul E dX1_key_3 ?_
  refine z_ild2 E dX1_key_4 ?_
  refine z_iadd E dX1_key_5 ?_
  refine z_bipush E 46 (by decide) dX1_key_6 ?_
  refine z_imul E dX1_key_8 ?_
  refine z_ild1 E dX1_key_9 ?_
  refine z_iadd E dX1_key_10 ?_
  exact hR dX1_key_11 ⟨rfl, rfl⟩
set_option maxHeartbeats 4000000 in
set_option maxRecDepth 100000 in
theorem m1_leave (g : GG) (a b c n : Nat) (X Y U W V K M : Nat → Nat) (d : Nat) (N : Nat → Nat) (x y z : Nat) (P : Nat → Nat → Nat → Prop) (hn : n < 800) (hL : Lst n X Y U P) (hP : ¬ P x y z) : C1V g yX1_leave cX1_leave 4 0 [.int (nI x), .int (nI y), .int (nI z)] (a, b, c, n, X, Y, U, W, V, K, M, d, N) (fun u => ∃ (X' Y' U' : Nat → Nat), u = (a, b, c, n + 1, X', Y', U', W, V, K, M, d, N) ∧ Lst (n + 1) X' Y' U' (fun x' y' z' => P x' y' z' ∨ (x' = x ∧ y' = y ∧ z' = z))) := by
  refine CtV.of RX1 [some (.ref (go g)), some (.int (nI x)), some (.int (nI y)), some (.int (nI z))] (by decide) rfl (by intro w hw; simp at hw; rcases hw with rfl | rfl | rfl | rfl <;> rfl) (Nat.le_of_ble_eq_true rfl) rfl ?_
  intro F Q E hR
  refine z_ald0 E dX1_leave_0 ?_
  refine z1_get_xs E dX1_leave_1 ?_
  refine z_ald0 E dX1_leave_4 ?_
  refine z1_get_count E dX1_leave_5 ?_
  refine z_ild1 E dX1_leave_8 ?_
  refine z1_st_xs E (by omega) dX1_leave_9 ?_
  refine z_ald0 E dX1_leave_10 ?_
  refine z1_get_ys E dX1_leave_11 ?_
  refine z_ald0 E dX1_leave_14 ?_
  refine z1_get_count E dX1_leave_15 ?_
  refine z_ild2 E dX1_leave_18 ?_
  refine z1_st_ys E (by omega) dX1_leave_19 ?_
  refine z_ald0 E dX1_leave_20 ?_
  refine z1_get_zs E dX1_leave_21 ?_
  refine z_ald0 E dX1_leave_24 ?_
  refine z1_get_count E dX1_leave_25 ?_
  refine z_ild3 E dX1_leave_28 ?_
  refine z1_st_zs E (by omega) dX1_leave_29 ?_
  refine z_ald0 E dX1_leave_30 ?_
  refine z_dup E rfl dX1_leave_31 ?_
  refine z1_get_count E dX1_leave_32 ?_
  refine z_ic1 E dX1_leave_35 ?_
  refine z_iadd E dX1_leave_36 ?_
  refine z1_put_count E dX1_leave_37 ?_
  exact hR dX1_leave_40 ⟨_, _, _, rfl, hL.put hP⟩
set_option maxHeartbeats 4000000 in
set_option maxRecDepth 100000 in
theorem m1_listSingles (g : GG) (a b c : Nat) (X Y U W V K M : Nat → Nat) (d : Nat) (N : Nat → Nat) (q x y z : Nat) (hq : q = 0 ∨ q = 1 ∨ q = 2 ∨ q = 7) (hx : x ≤ 15) (hy : y ≤ 15) (hz : z ≤ 15) : C1V g yX1_listSingles cX1_listSingles 8 1 [.int (nI q), .int (nI x), .int (nI y), .int (nI z)] (a, b, c, 0, X, Y, U, W, V, K, M, d, N) (fun u => ∃ (n' : Nat) (X' Y' U' : Nat → Nat), u = (a, b, c, n', X', Y', U', W, V, K, M, d, N) ∧ n' ≤ 720 ∧ Lst n' X' Y' U' (Mv q x y z)) := by
  refine CtV.of RX1 [some (.ref (go g)), some (.int (nI q)), some (.int (nI x)), some (.int (nI y)), some (.int (nI z)), none, none, none] (by decide) rfl (by intro w hw; simp at hw; rcases hw with rfl | rfl | rfl | rfl | rfl <;> rfl) (Nat.le_of_ble_eq_true rfl) rfl ?_
  intro F Q E hR
  refine z_ild1 E dX1_listSingles_0 ?_
  refine z_bipush E 7 (by decide) dX1_listSingles_1 ?_
  have J12 : ∀ (e : Nat), ((q = 7 ∧ e = 3) ∨ (q ≠ 7 ∧ e = 15)) → Z1 g F Q 8 (a, b, c, 0, X, Y, U, W, V, K, M, d, N) 12 [some (.ref (go g)), some (.int (nI q)), some (.int (nI x)), some (.int (nI y)), some (.int (nI z)), none, none, none] [.int (nI e)] := by
    intro e he
    refine z_ist5 E dX1_listSingles_12 ?_
    refine z_ic1 E dX1_listSingles_14 ?_
    refine z_ist6 E dX1_listSingles_15 ?_
    have L17 : ∀ (fuel : Nat) (k n' : Nat) (X' Y' U' : Nat → Nat) (o7 : Option Value), (1 ≤ k) → (k ≤ e + 1) → (n' + 48 ≤ 48 * k) → (Lst n' X' Y' U' (fun x' y' z' => SP q k k k k 1 1 1 x y z x' y' z')) → (e + 1 < k + fuel) → Z1 g F Q 8 (a, b, c, n', X', Y', U', W, V, K, M, d, N) 17 [some (.ref (go g)), some (.int (nI q)), some (.int (nI x)), some (.int (nI y)), some (.int (nI z)), some (.int (nI e)), some (.int (nI k)), o7] [] := by
      intro fuel
      induction fuel with
      | zero =>
        intro k n' X' Y' U' o7 h0 h1 h2 hL h3
        exfalso; omega
      | succ fuel ih17 =>
        intro k n' X' Y' U' o7 h0 h1 h2 hL h3
        refine z_ild6 E dX1_listSingles_17 ?_
        refine z_ild5 E dX1_listSingles_19 ?_
        refine z_icmp_gt E (by omega) (by omega) 183 dX1_listSingles_21 (by decide) (fun c21 => ?_) (fun c21 => ?_)
        · exact hR dX1_listSingles_183 ⟨n', X', Y', U', rfl, by omega, hL.congr (fun x' y' z' => SP_end hx hy hz hq he (by omega))⟩
        · have J41 : ∀ (n1 : Nat) (X1 Y1 U1 : Nat → Nat), (n1 + 48 ≤ 48 * k + 1) → (Lst n1 X1 Y1 U1 (fun x' y' z' => SP q (k + 1) k k k 1 1 1 x y z x' y' z')) → Z1 g F Q 8 (a, b, c, n1, X1, Y1, U1, W, V, K, M, d, N) 41 [some (.ref (go g)), some (.int (nI q)), some (.int (nI x)), some (.int (nI y)), some (.int (nI z)), some (.int (nI e)), some (.int (nI k)), o7] [] := by
            intro n1 X1 Y1 U1 hn1 hL1
            have J58 : ∀ (n2 : Nat) (X2 Y2 U2 : Nat → Nat), (n2 + 48 ≤ 48 * k + 2) → (Lst n2 X2 Y2 U2 (fun x' y' z' => SP q (k + 1) (k + 1) k k 1 1 1 x y z x' y' z')) → Z1 g F Q 8 (a, b, c, n2, X2, Y2, U2, W, V, K, M, d, N) 58 [some (.ref (go g)), some (.int (nI q)), some (.int (nI x)), some (.int (nI y)), some (.int (nI z)), some (.int (nI e)), some (.int (nI k)), o7] [] := by
              intro n2 X2 Y2 U2 hn2 hL2
              have J76 : ∀ (n3 : Nat) (X3 Y3 U3 : Nat → Nat), (n3 + 48 ≤ 48 * k + 3) → (Lst n3 X3 Y3 U3 (fun x' y' z' => SP q (k + 1) (k + 1) (k + 1) k 1 1 1 x y z x' y' z')) → Z1 g F Q 8 (a, b, c, n3, X3, Y3, U3, W, V, K, M, d, N) 76 [some (.ref (go g)), some (.int (nI q)), some (.int (nI x)), some (.int (nI y)), some (.int (nI z)), some (.int (nI e)), some (.int (nI k)), o7] [] := by
                intro n3 X3 Y3 U3 hn3 hL3
                refine z_ic1 E dX1_listSingles_76 ?_
                refine z_ist7 E dX1_listSingles_77 ?_
                have L79 : ∀ (fuel : Nat) (m n4 : Nat) (X4 Y4 U4 : Nat → Nat), (1 ≤ m) → (m ≤ 16) → (n4 + 48 ≤ 48 * k + 3 * m) → (Lst n4 X4 Y4 U4 (fun x' y' z' => SP q (k + 1) (k + 1) (k + 1) k m m m x y z x' y' z')) → (16 < m + fuel) → Z1 g F Q 8 (a, b, c, n4, X4, Y4, U4, W, V, K, M, d, N) 79 [some (.ref (go g)), some (.int (nI q)), some (.int (nI x)), some (.int (nI y)), some (.int (nI z)), some (.int (nI e)), some (.int (nI k)), some (.int (nI m))] [] := by
                  intro fuel
                  induction fuel with
                  | zero =>
                    intro m n4 X4 Y4 U4 g0 g1 g2 hL4 g3
                    exfalso; omega
                  | succ fuel ih79 =>
                    intro m n4 X4 Y4 U4 g0 g1 g2 hL4 g3
                    refine z_ild7 E dX1_listSingles_79 ?_
                    refine z_bipush E 15 (by decide) dX1_listSingles_81 ?_
                    refine z_icmp_gt E (by omega) (by omega) 177 dX1_listSingles_83 (by decide) (fun c83 => ?_) (fun c83 => ?_)
                    · have hLr : Lst n4 X4 Y4 U4 (fun x' y' z' => SP q (k + 1) (k + 1) (k + 1) (k + 1) 1 1 1 x y z x' y' z') := hL4.congr (fun x' y' z' => SP_row hy hz h0 m (fun _ => by omega) g0)
                      refine z_inc6 E dX1_listSingles_177 ?_
                      refine z_goto E 17 dX1_listSingles_180 (by decide) ?_
                      exact ih17 (k + 1) _ _ _ _ _ (by omega) (by omega) (by omega) hLr (by omega)
                    · refine z_ild1 E dX1_listSingles_86 ?_
                      refine z_ic2 E dX1_listSingles_87 ?_
                      refine z_icmp_ne E (by omega) (by omega) 177 dX1_listSingles_88 (by decide) (fun c88 => ?_) (fun c88 => ?_)
                      · have hLr : Lst n4 X4 Y4 U4 (fun x' y' z' => SP q (k + 1) (k + 1) (k + 1) (k + 1) 1 1 1 x y z x' y' z') := hL4.congr (fun x' y' z' => SP_row hy hz h0 m (fun _ => by omega) g0)
                        refine z_inc6 E dX1_listSingles_177 ?_
                        refine z_goto E 17 dX1_listSingles_180 (by decide) ?_
                        exact ih17 (k + 1) _ _ _ _ _ (by omega) (by omega) (by omega) hLr (by omega)
                      · have J117 : ∀ (n5 : Nat) (X5 Y5 U5 : Nat → Nat), (n5 + 48 ≤ 48 * k + 3 * m + 1) → (Lst n5 X5 Y5 U5 (fun x' y' z' => SP q (k + 1) (k + 1) (k + 1) k (m + 1) m m x y z x' y' z')) → Z1 g F Q 8 (a, b, c, n5, X5, Y5, U5, W, V, K, M, d, N) 117 [some (.ref (go g)), some (.int (nI q)), some (.int (nI x)), some (.int (nI y)), some (.int (nI z)), some (.int (nI e)), some (.int (nI k)), some (.int (nI m))] [] := by
                          intro n5 X5 Y5 U5 hn5 hL5
                          have J144 : ∀ (n6 : Nat) (X6 Y6 U6 : Nat → Nat), (n6 + 48 ≤ 48 * k + 3 * m + 2) → (Lst n6 X6 Y6 U6 (fun x' y' z' => SP q (k + 1) (k + 1) (k + 1) k (m + 1) (m + 1) m x y z x' y' z')) → Z1 g F Q 8 (a, b, c, n6, X6, Y6, U6, W, V, K, M, d, N) 144 [some (.ref (go g)), some (.int (nI q)), some (.int (nI x)), some (.int (nI y)), some (.int (nI z)), some (.int (nI e)), some (.int (nI k)), some (.int (nI m))] [] := by
                            intro n6 X6 Y6 U6 hn6 hL6
                            have J171 : ∀ (n7 : Nat) (X7 Y7 U7 : Nat → Nat), (n7 + 48 ≤ 48 * k + 3 * m + 3) → (Lst n7 X7 Y7 U7 (fun x' y' z' => SP q (k + 1) (k + 1) (k + 1) k (m + 1) (m + 1) (m + 1) x y z x' y' z')) → Z1 g F Q 8 (a, b, c, n7, X7, Y7, U7, W, V, K, M, d, N) 171 [some (.ref (go g)), some (.int (nI q)), some (.int (nI x)), some (.int (nI y)), some (.int (nI z)), some (.int (nI e)), some (.int (nI k)), some (.int (nI m))] [] := by
                              intro n7 X7 Y7 U7 hn7 hL7
                              refine z_inc7 E dX1_listSingles_171 ?_
                              refine z_goto E 79 dX1_listSingles_174 (by decide) ?_
                              exact ih79 (m + 1) _ _ _ _ (by omega) (by omega) (by omega) hL7 (by omega)
                            refine z_ild6 E dX1_listSingles_144 ?_
                            refine z_ild3 E dX1_listSingles_146 ?_
                            refine z_icmp_gt E (by omega) (by omega) 171 dX1_listSingles_147 (by decide) (fun c147 => ?_) (fun c147 => ?_)
                            · exact J171 _ _ _ _ (by omega) (hL6.congr (fun x' y' z' => by unfold SP; exact orM5 (by simp only [dC]; omega)))
                            · refine z_ild7 E dX1_listSingles_150 ?_
                              refine z_ild4 E dX1_listSingles_152 ?_
                              refine z_icmp_gt E (by omega) (by omega) 171 dX1_listSingles_154 (by decide) (fun c154 => ?_) (fun c154 => ?_)
                              · exact J171 _ _ _ _ (by omega) (hL6.congr (fun x' y' z' => by unfold SP; exact orM5 (by simp only [dC]; omega)))
                              · refine z_ald0 E dX1_listSingles_157 ?_
                                refine z_ild2 E dX1_listSingles_158 ?_
                                refine z_ild3 E dX1_listSingles_159 ?_
                                refine z_ild6 E dX1_listSingles_160 ?_
                                refine z_isub E (by omega) dX1_listSingles_162 ?_
                                refine z_ild4 E dX1_listSingles_163 ?_
                                refine z_ild7 E dX1_listSingles_165 ?_
                                refine z_isub E (by omega) dX1_listSingles_167 ?_
                                refine z1_c_leave E dX1_listSingles_168 (by decide) (Nat.le_of_ble_eq_true rfl) (m1_leave g a b c n6 X6 Y6 U6 W V K M d N x (y - k) (z - m) (fun x' y' z' => SP q (k + 1) (k + 1) (k + 1) k (m + 1) (m + 1) m x y z x' y' z') (by omega) hL6 (fun e => by simp only [SP, sA, sB, sC, dA, dB, dC] at e; omega)) (fun u168 h168 => ?_)
                                obtain ⟨X168, Y168, U168, rfl, hL168⟩ := h168
                                exact J171 _ _ _ _ (by omega) (hL168.congr (fun x' y' z' => by unfold SP; exact orL5 (by simp only [dC]; omega)))
                          refine z_ild6 E dX1_listSingles_117 ?_
                          refine z_ild2 E dX1_listSingles_119 ?_
                          refine z_icmp_gt E (by omega) (by omega) 144 dX1_listSingles_120 (by decide) (fun c120 => ?_) (fun c120 => ?_)
                          · exact J144 _ _ _ _ (by omega) (hL5.congr (fun x' y' z' => by unfold SP; exact orD4 (by simp only [dB]; omega)))
                          · refine z_ild7 E dX1_listSingles_123 ?_
                            refine z_ild4 E dX1_listSingles_125 ?_
                            refine z_icmp_gt E (by omega) (by omega) 144 dX1_listSingles_127 (by decide) (fun c127 => ?_) (fun c127 => ?_)
                            · exact J144 _ _ _ _ (by omega) (hL5.congr (fun x' y' z' => by unfold SP; exact orD4 (by simp only [dB]; omega)))
                            · refine z_ald0 E dX1_listSingles_130 ?_
                              refine z_ild2 E dX1_listSingles_131 ?_
                              refine z_ild6 E dX1_listSingles_132 ?_
                              refine z_isub E (by omega) dX1_listSingles_134 ?_
                              refine z_ild3 E dX1_listSingles_135 ?_
                              refine z_ild4 E dX1_listSingles_136 ?_
                              refine z_ild7 E dX1_listSingles_138 ?_
                              refine z_isub E (by omega) dX1_listSingles_140 ?_
                              refine z1_c_leave E dX1_listSingles_141 (by decide) (Nat.le_of_ble_eq_true rfl) (m1_leave g a b c n5 X5 Y5 U5 W V K M d N (x - k) y (z - m) (fun x' y' z' => SP q (k + 1) (k + 1) (k + 1) k (m + 1) m m x y z x' y' z') (by omega) hL5 (fun e => by simp only [SP, sA, sB, sC, dA, dB, dC] at e; omega)) (fun u141 h141 => ?_)
                              obtain ⟨X141, Y141, U141, rfl, hL141⟩ := h141
                              exact J144 _ _ _ _ (by omega) (hL141.congr (fun x' y' z' => by unfold SP; exact orC4 (by simp only [dB]; omega)))
                        refine z_ild6 E dX1_listSingles_91 ?_
                        refine z_ild2 E dX1_listSingles_93 ?_
                        refine z_icmp_gt E (by omega) (by omega) 117 dX1_listSingles_94 (by decide) (fun c94 => ?_) (fun c94 => ?_)
                        · exact J117 _ _ _ _ (by omega) (hL4.congr (fun x' y' z' => by unfold SP; exact orD3 (by simp only [dA]; omega)))
                        · refine z_ild7 E dX1_listSingles_97 ?_
                          refine z_ild3 E dX1_listSingles_99 ?_
                          refine z_icmp_gt E (by omega) (by omega) 117 dX1_listSingles_100 (by decide) (fun c100 => ?_) (fun c100 => ?_)
                          · exact J117 _ _ _ _ (by omega) (hL4.congr (fun x' y' z' => by unfold SP; exact orD3 (by simp only [dA]; omega)))
                          · refine z_ald0 E dX1_listSingles_103 ?_
                            refine z_ild2 E dX1_listSingles_104 ?_
                            refine z_ild6 E dX1_listSingles_105 ?_
                            refine z_isub E (by omega) dX1_listSingles_107 ?_
                            refine z_ild3 E dX1_listSingles_108 ?_
                            refine z_ild7 E dX1_listSingles_109 ?_
                            refine z_isub E (by omega) dX1_listSingles_111 ?_
                            refine z_ild4 E dX1_listSingles_112 ?_
                            refine z1_c_leave E dX1_listSingles_114 (by decide) (Nat.le_of_ble_eq_true rfl) (m1_leave g a b c n4 X4 Y4 U4 W V K M d N (x - k) (y - m) z (fun x' y' z' => SP q (k + 1) (k + 1) (k + 1) k m m m x y z x' y' z') (by omega) hL4 (fun e => by simp only [SP, sA, sB, sC, dA, dB, dC] at e; omega)) (fun u114 h114 => ?_)
                            obtain ⟨X114, Y114, U114, rfl, hL114⟩ := h114
                            exact J117 _ _ _ _ (by omega) (hL114.congr (fun x' y' z' => by unfold SP; exact orC3 (by simp only [dA]; omega)))
                exact L79 16 1 n3 X3 Y3 U3 (by omega) (by omega) (by omega) hL3 (by omega)
              refine z_ild6 E dX1_listSingles_58 ?_
              refine z_ild4 E dX1_listSingles_60 ?_
              refine z_icmp_gt E (by omega) (by omega) 76 dX1_listSingles_62 (by decide) (fun c62 => ?_) (fun c62 => ?_)
              · exact J76 _ _ _ _ (by omega) (hL2.congr (fun x' y' z' => by unfold SP; exact orD2 (by simp only [sC]; omega)))
              · refine z_ald0 E dX1_listSingles_65 ?_
                refine z_ild2 E dX1_listSingles_66 ?_
                refine z_ild3 E dX1_listSingles_67 ?_
                refine z_ild4 E dX1_listSingles_68 ?_
                refine z_ild6 E dX1_listSingles_70 ?_
                refine z_isub E (by omega) dX1_listSingles_72 ?_
                refine z1_c_leave E dX1_listSingles_73 (by decide) (Nat.le_of_ble_eq_true rfl) (m1_leave g a b c n2 X2 Y2 U2 W V K M d N x y (z - k) (fun x' y' z' => SP q (k + 1) (k + 1) k k 1 1 1 x y z x' y' z') (by omega) hL2 (fun e => by simp only [SP, sA, sB, sC, dA, dB, dC] at e; omega)) (fun u73 h73 => ?_)
                obtain ⟨X73, Y73, U73, rfl, hL73⟩ := h73
                exact J76 _ _ _ _ (by omega) (hL73.congr (fun x' y' z' => by unfold SP; exact orC2 (by simp only [sC]; omega)))
            refine z_ild6 E dX1_listSingles_41 ?_
            refine z_ild3 E dX1_listSingles_43 ?_
            refine z_icmp_gt E (by omega) (by omega) 58 dX1_listSingles_44 (by decide) (fun c44 => ?_) (fun c44 => ?_)
            · exact J58 _ _ _ _ (by omega) (hL1.congr (fun x' y' z' => by unfold SP; exact orD1 (by simp only [sB]; omega)))
            · refine z_ald0 E dX1_listSingles_47 ?_
              refine z_ild2 E dX1_listSingles_48 ?_
              refine z_ild3 E dX1_listSingles_49 ?_
              refine z_ild6 E dX1_listSingles_50 ?_
              refine z_isub E (by omega) dX1_listSingles_52 ?_
              refine z_ild4 E dX1_listSingles_53 ?_
              refine z1_c_leave E dX1_listSingles_55 (by decide) (Nat.le_of_ble_eq_true rfl) (m1_leave g a b c n1 X1 Y1 U1 W V K M d N x (y - k) z (fun x' y' z' => SP q (k + 1) k k k 1 1 1 x y z x' y' z') (by omega) hL1 (fun e => by simp only [SP, sA, sB, sC, dA, dB, dC] at e; omega)) (fun u55 h55 => ?_)
              obtain ⟨X55, Y55, U55, rfl, hL55⟩ := h55
              exact J58 _ _ _ _ (by omega) (hL55.congr (fun x' y' z' => by unfold SP; exact orC1 (by simp only [sB]; omega)))
          refine z_ild6 E dX1_listSingles_24 ?_
          refine z_ild2 E dX1_listSingles_26 ?_
          refine z_icmp_gt E (by omega) (by omega) 41 dX1_listSingles_27 (by decide) (fun c27 => ?_) (fun c27 => ?_)
          · exact J41 _ _ _ _ (by omega) (hL.congr (fun x' y' z' => by unfold SP; exact orD0 (by simp only [sA]; omega)))
          · refine z_ald0 E dX1_listSingles_30 ?_
            refine z_ild2 E dX1_listSingles_31 ?_
            refine z_ild6 E dX1_listSingles_32 ?_
            refine z_isub E (by omega) dX1_listSingles_34 ?_
            refine z_ild3 E dX1_listSingles_35 ?_
            refine z_ild4 E dX1_listSingles_36 ?_
            refine z1_c_leave E dX1_listSingles_38 (by decide) (Nat.le_of_ble_eq_true rfl) (m1_leave g a b c n' X' Y' U' W V K M d N (x - k) y z (fun x' y' z' => SP q k k k k 1 1 1 x y z x' y' z') (by omega) hL (fun e => by simp only [SP, sA, sB, sC, dA, dB, dC] at e; omega)) (fun u38 h38 => ?_)
            obtain ⟨X38, Y38, U38, rfl, hL38⟩ := h38
            exact J41 _ _ _ _ (by omega) (hL38.congr (fun x' y' z' => by unfold SP; exact orC0 (by simp only [sA]; omega)))
    exact L17 16 1 0 X Y U _ (by omega) (by omega) (by omega) (Lst.zero X Y U (fun _ _ _ => SP_0)) (by omega)
  refine z_icmp_ne E (by omega) (by omega) 10 dX1_listSingles_3 (by decide) (fun c3 => ?_) (fun c3 => ?_)
  · refine z_bipush E 15 (by decide) dX1_listSingles_10 ?_
    exact J12 _ (by omega)
  · refine z_ic3 E dX1_listSingles_6 ?_
    refine z_goto E 12 dX1_listSingles_7 (by decide) ?_
    exact J12 _ (by omega)
set_option maxHeartbeats 4000000 in
set_option maxRecDepth 100000 in
theorem m1_listPushes (g : GG) (a b c : Nat) (X Y U W V K M : Nat → Nat) (d : Nat) (N : Nat → Nat) (x y z : Nat) (hx : x ≤ 45) (hy : y ≤ 30) (hz : z ≤ 15) : C1V g yX1_listPushes cX1_listPushes 5 1 [.int (nI x), .int (nI y), .int (nI z)] (a, b, c, 0, X, Y, U, W, V, K, M, d, N) (fun u => ∃ (n' : Nat) (X' Y' U' : Nat → Nat), u = (a, b, c, n', X', Y', U', W, V, K, M, d, N) ∧ n' ≤ 720 ∧ Lst n' X' Y' U' (Mv 3 x y z)) := by
  refine CtV.of RX1 [some (.ref (go g)), some (.int (nI x)), some (.int (nI y)), some (.int (nI z)), none] (by decide) rfl (by intro w hw; simp at hw; rcases hw with rfl | rfl | rfl | rfl <;> rfl) (Nat.le_of_ble_eq_true rfl) rfl ?_
  intro F Q E hR
  refine z_ic1 E dX1_listPushes_0 ?_
  refine z_ist4 E dX1_listPushes_1 ?_
  have L3 : ∀ (fuel : Nat) (k n0 : Nat) (X0 Y0 U0 : Nat → Nat), (1 ≤ k) → (k ≤ z + 1) → (n0 + 1 ≤ k) → (Lst n0 X0 Y0 U0 (fun x' y' z' => pA k x y z x' y' z' ∨ pB 1 x y z x' y' z' ∨ sA 1 x y z x' y' z')) → (z + 1 < k + fuel) → Z1 g F Q 5 (a, b, c, n0, X0, Y0, U0, W, V, K, M, d, N) 3 [some (.ref (go g)), some (.int (nI x)), some (.int (nI y)), some (.int (nI z)), some (.int (nI k))] [] := by
    intro fuel
    induction fuel with
    | zero =>
      intro k n0 X0 Y0 U0 h0 h1 h2 hL0 h3
      exfalso; omega
    | succ fuel ih3 =>
      intro k n0 X0 Y0 U0 h0 h1 h2 hL0 h3
      refine z_ild4 E dX1_listPushes_3 ?_
      refine z_ild3 E dX1_listPushes_5 ?_
      refine z_icmp_gt E (by omega) (by omega) 28 dX1_listPushes_6 (by decide) (fun c6 => ?_) (fun c6 => ?_)
      · refine z_ic1 E dX1_listPushes_28 ?_
        refine z_ist4 E dX1_listPushes_29 ?_
        have L31 : ∀ (fuel : Nat) (k n1 : Nat) (X1 Y1 U1 : Nat → Nat), (1 ≤ k) → (k ≤ y + 1) → (n1 + 1 ≤ z + k) → (Lst n1 X1 Y1 U1 (fun x' y' z' => pA (z + 1) x y z x' y' z' ∨ pB k x y z x' y' z' ∨ sA 1 x y z x' y' z')) → (y + 1 < k + fuel) → Z1 g F Q 5 (a, b, c, n1, X1, Y1, U1, W, V, K, M, d, N) 31 [some (.ref (go g)), some (.int (nI x)), some (.int (nI y)), some (.int (nI z)), some (.int (nI k))] [] := by
          intro fuel
          induction fuel with
          | zero =>
            intro k n1 X1 Y1 U1 h0 h1 h2 hL1 h3
            exfalso; omega
          | succ fuel ih31 =>
            intro k n1 X1 Y1 U1 h0 h1 h2 hL1 h3
            refine z_ild4 E dX1_listPushes_31 ?_
            refine z_ild2 E dX1_listPushes_33 ?_
            refine z_icmp_gt E (by omega) (by omega) 56 dX1_listPushes_34 (by decide) (fun c34 => ?_) (fun c34 => ?_)
            · refine z_ic1 E dX1_listPushes_56 ?_
              refine z_ist4 E dX1_listPushes_57 ?_
              have L59 : ∀ (fuel : Nat) (k n2 : Nat) (X2 Y2 U2 : Nat → Nat), (1 ≤ k) → (k ≤ x + 1) → (n2 + 1 ≤ z + y + k) → (Lst n2 X2 Y2 U2 (fun x' y' z' => pA (z + 1) x y z x' y' z' ∨ pB (y + 1) x y z x' y' z' ∨ sA k x y z x' y' z')) → (x + 1 < k + fuel) → Z1 g F Q 5 (a, b, c, n2, X2, Y2, U2, W, V, K, M, d, N) 59 [some (.ref (go g)), some (.int (nI x)), some (.int (nI y)), some (.int (nI z)), some (.int (nI k))] [] := by
                intro fuel
                induction fuel with
                | zero =>
                  intro k n2 X2 Y2 U2 h0 h1 h2 hL2 h3
                  exfalso; omega
                | succ fuel ih59 =>
                  intro k n2 X2 Y2 U2 h0 h1 h2 hL2 h3
                  refine z_ild4 E dX1_listPushes_59 ?_
                  refine z_ild1 E dX1_listPushes_61 ?_
                  refine z_icmp_gt E (by omega) (by omega) 81 dX1_listPushes_62 (by decide) (fun c62 => ?_) (fun c62 => ?_)
                  · exact hR dX1_listPushes_81 ⟨n2, X2, Y2, U2, rfl, by omega, hL2.congr (fun x' y' z' => by rw [Mv_3 rfl]; simp only [pA, pB, sA, pushM]; omega)⟩
                  · refine z_ald0 E dX1_listPushes_65 ?_
                    refine z_ild1 E dX1_listPushes_66 ?_
                    refine z_ild4 E dX1_listPushes_67 ?_
                    refine z_isub E (by omega) dX1_listPushes_69 ?_
                    refine z_ild2 E dX1_listPushes_70 ?_
                    refine z_ild3 E dX1_listPushes_71 ?_
                    refine z1_c_leave E dX1_listPushes_72 (by decide) (Nat.le_of_ble_eq_true rfl) (m1_leave g a b c n2 X2 Y2 U2 W V K M d N (x - k) y z (fun x' y' z' => pA (z + 1) x y z x' y' z' ∨ pB (y + 1) x y z x' y' z' ∨ sA k x y z x' y' z') (by omega) hL2 (fun e => by simp only [pA, pB, sA] at e; omega)) (fun u72 h72 => ?_)
                    obtain ⟨X72, Y72, U72, rfl, hL72⟩ := h72
                    refine z_inc4 E dX1_listPushes_75 ?_
                    refine z_goto E 59 dX1_listPushes_78 (by decide) ?_
                    exact ih59 (k + 1) _ _ _ _ (by omega) (by omega) (by omega) (hL72.congr (fun x' y' z' => orL2 (by simp only [sA]; omega))) (by omega)
              exact L59 (x + 1) 1 n1 X1 Y1 U1 (by omega) (by omega) (by omega) (hL1.congr (fun x' y' z' => orD1 (by simp only [pB]; omega))) (by omega)
            · refine z_ald0 E dX1_listPushes_37 ?_
              refine z_ild1 E dX1_listPushes_38 ?_
              refine z_ild4 E dX1_listPushes_39 ?_
              refine z_iadd E dX1_listPushes_41 ?_
              refine z_ild2 E dX1_listPushes_42 ?_
              refine z_ild4 E dX1_listPushes_43 ?_
              refine z_isub E (by omega) dX1_listPushes_45 ?_
              refine z_ild3 E dX1_listPushes_46 ?_
              refine z1_c_leave E dX1_listPushes_47 (by decide) (Nat.le_of_ble_eq_true rfl) (m1_leave g a b c n1 X1 Y1 U1 W V K M d N (x + k) (y - k) z (fun x' y' z' => pA (z + 1) x y z x' y' z' ∨ pB k x y z x' y' z' ∨ sA 1 x y z x' y' z') (by omega) hL1 (fun e => by simp only [pA, pB, sA] at e; omega)) (fun u47 h47 => ?_)
              obtain ⟨X47, Y47, U47, rfl, hL47⟩ := h47
              refine z_inc4 E dX1_listPushes_50 ?_
              refine z_goto E 31 dX1_listPushes_53 (by decide) ?_
              exact ih31 (k + 1) _ _ _ _ (by omega) (by omega) (by omega) (hL47.congr (fun x' y' z' => orC1 (by simp only [pB]; omega))) (by omega)
        exact L31 (y + 1) 1 n0 X0 Y0 U0 (by omega) (by omega) (by omega) (hL0.congr (fun x' y' z' => orD0 (by simp only [pA]; omega))) (by omega)
      · refine z_ald0 E dX1_listPushes_9 ?_
        refine z_ild1 E dX1_listPushes_10 ?_
        refine z_ild2 E dX1_listPushes_11 ?_
        refine z_ild4 E dX1_listPushes_12 ?_
        refine z_iadd E dX1_listPushes_14 ?_
        refine z_ild3 E dX1_listPushes_15 ?_
        refine z_ild4 E dX1_listPushes_16 ?_
        refine z_isub E (by omega) dX1_listPushes_18 ?_
        refine z1_c_leave E dX1_listPushes_19 (by decide) (Nat.le_of_ble_eq_true rfl) (m1_leave g a b c n0 X0 Y0 U0 W V K M d N x (y + k) (z - k) (fun x' y' z' => pA k x y z x' y' z' ∨ pB 1 x y z x' y' z' ∨ sA 1 x y z x' y' z') (by omega) hL0 (fun e => by simp only [pA, pB, sA] at e; omega)) (fun u19 h19 => ?_)
        obtain ⟨X19, Y19, U19, rfl, hL19⟩ := h19
        refine z_inc4 E dX1_listPushes_22 ?_
        refine z_goto E 3 dX1_listPushes_25 (by decide) ?_
        exact ih3 (k + 1) _ _ _ _ (by omega) (by omega) (by omega) (hL19.congr (fun x' y' z' => orC0 (by simp only [pA]; omega))) (by omega)
  exact L3 (z + 1) 1 0 X Y U (by omega) (by omega) (by omega) (Lst.zero X Y U (fun x' y' z' e => by simp only [pA, pB, sA] at e; omega)) (by omega)
set_option maxHeartbeats 4000000 in
set_option maxRecDepth 100000 in
theorem m1_listEqual (g : GG) (a b c : Nat) (X Y U W V K M : Nat → Nat) (d : Nat) (N : Nat → Nat) (x y z : Nat) (hx : x ≤ 15) (hy : y ≤ 15) (hz : z ≤ 15) : C1V g yX1_listEqual cX1_listEqual 5 1 [.int (nI x), .int (nI y), .int (nI z)] (a, b, c, 0, X, Y, U, W, V, K, M, d, N) (fun u => ∃ (n' : Nat) (X' Y' U' : Nat → Nat), u = (a, b, c, n', X', Y', U', W, V, K, M, d, N) ∧ n' ≤ 720 ∧ Lst n' X' Y' U' (Mv 4 x y z)) := by
  refine CtV.of RX1 [some (.ref (go g)), some (.int (nI x)), some (.int (nI y)), some (.int (nI z)), none] (by decide) rfl (by intro w hw; simp at hw; rcases hw with rfl | rfl | rfl | rfl <;> rfl) (Nat.le_of_ble_eq_true rfl) rfl ?_
  intro F Q E hR
  refine z_ic1 E dX1_listEqual_0 ?_
  refine z_ist4 E dX1_listEqual_1 ?_
  have L3 : ∀ (fuel : Nat) (k n0 : Nat) (X0 Y0 U0 : Nat → Nat), (1 ≤ k) → (k ≤ x + 1) → (n0 + 1 ≤ k) → (Lst n0 X0 Y0 U0 (fun x' y' z' => sA k x y z x' y' z' ∨ sB 1 x y z x' y' z' ∨ eC 1 x y z x' y' z')) → (x + 1 < k + fuel) → Z1 g F Q 5 (a, b, c, n0, X0, Y0, U0, W, V, K, M, d, N) 3 [some (.ref (go g)), some (.int (nI x)), some (.int (nI y)), some (.int (nI z)), some (.int (nI k))] [] := by
    intro fuel
    induction fuel with
    | zero =>
      intro k n0 X0 Y0 U0 h0 h1 h2 hL0 h3
      exfalso; omega
    | succ fuel ih3 =>
      intro k n0 X0 Y0 U0 h0 h1 h2 hL0 h3
      refine z_ild4 E dX1_listEqual_3 ?_
      refine z_ild1 E dX1_listEqual_5 ?_
      refine z_icmp_gt E (by omega) (by omega) 25 dX1_listEqual_6 (by decide) (fun c6 => ?_) (fun c6 => ?_)
      · refine z_ic1 E dX1_listEqual_25 ?_
        refine z_ist4 E dX1_listEqual_26 ?_
        have L28 : ∀ (fuel : Nat) (k n1 : Nat) (X1 Y1 U1 : Nat → Nat), (1 ≤ k) → (k ≤ y + 1) → (n1 + 1 ≤ x + k) → (Lst n1 X1 Y1 U1 (fun x' y' z' => sA (x + 1) x y z x' y' z' ∨ sB k x y z x' y' z' ∨ eC 1 x y z x' y' z')) → (y + 1 < k + fuel) → Z1 g F Q 5 (a, b, c, n1, X1, Y1, U1, W, V, K, M, d, N) 28 [some (.ref (go g)), some (.int (nI x)), some (.int (nI y)), some (.int (nI z)), some (.int (nI k))] [] := by
          intro fuel
          induction fuel with
          | zero =>
            intro k n1 X1 Y1 U1 h0 h1 h2 hL1 h3
            exfalso; omega
          | succ fuel ih28 =>
            intro k n1 X1 Y1 U1 h0 h1 h2 hL1 h3
            refine z_ild4 E dX1_listEqual_28 ?_
            refine z_ild2 E dX1_listEqual_30 ?_
            refine z_icmp_gt E (by omega) (by omega) 50 dX1_listEqual_31 (by decide) (fun c31 => ?_) (fun c31 => ?_)
            · refine z_ic1 E dX1_listEqual_50 ?_
              refine z_ist4 E dX1_listEqual_51 ?_
              have L53 : ∀ (fuel : Nat) (k n2 : Nat) (X2 Y2 U2 : Nat → Nat), (1 ≤ k) → (k ≤ x + 1) → (n2 + 1 ≤ x + y + k) → (Lst n2 X2 Y2 U2 (fun x' y' z' => sA (x + 1) x y z x' y' z' ∨ sB (y + 1) x y z x' y' z' ∨ eC k x y z x' y' z')) → (x + 1 < k + fuel) → Z1 g F Q 5 (a, b, c, n2, X2, Y2, U2, W, V, K, M, d, N) 53 [some (.ref (go g)), some (.int (nI x)), some (.int (nI y)), some (.int (nI z)), some (.int (nI k))] [] := by
                intro fuel
                induction fuel with
                | zero =>
                  intro k n2 X2 Y2 U2 h0 h1 h2 hL2 h3
                  exfalso; omega
                | succ fuel ih53 =>
                  intro k n2 X2 Y2 U2 h0 h1 h2 hL2 h3
                  refine z_ild4 E dX1_listEqual_53 ?_
                  refine z_ild1 E dX1_listEqual_55 ?_
                  refine z_icmp_gt E (by omega) (by omega) 84 dX1_listEqual_56 (by decide) (fun c56 => ?_) (fun c56 => ?_)
                  · exact hR dX1_listEqual_84 ⟨n2, X2, Y2, U2, rfl, by omega, hL2.congr (fun x' y' z' => by rw [Mv_4 rfl]; simp only [sA, sB, eC, eqM]; omega)⟩
                  · refine z_ild4 E dX1_listEqual_59 ?_
                    refine z_ild2 E dX1_listEqual_61 ?_
                    refine z_icmp_gt E (by omega) (by omega) 84 dX1_listEqual_62 (by decide) (fun c62 => ?_) (fun c62 => ?_)
                    · exact hR dX1_listEqual_84 ⟨n2, X2, Y2, U2, rfl, by omega, hL2.congr (fun x' y' z' => by rw [Mv_4 rfl]; simp only [sA, sB, eC, eqM]; omega)⟩
                    · refine z_ald0 E dX1_listEqual_65 ?_
                      refine z_ild1 E dX1_listEqual_66 ?_
                      refine z_ild4 E dX1_listEqual_67 ?_
                      refine z_isub E (by omega) dX1_listEqual_69 ?_
                      refine z_ild2 E dX1_listEqual_70 ?_
                      refine z_ild4 E dX1_listEqual_71 ?_
                      refine z_isub E (by omega) dX1_listEqual_73 ?_
                      refine z_ild3 E dX1_listEqual_74 ?_
                      refine z1_c_leave E dX1_listEqual_75 (by decide) (Nat.le_of_ble_eq_true rfl) (m1_leave g a b c n2 X2 Y2 U2 W V K M d N (x - k) (y - k) z (fun x' y' z' => sA (x + 1) x y z x' y' z' ∨ sB (y + 1) x y z x' y' z' ∨ eC k x y z x' y' z') (by omega) hL2 (fun e => by simp only [eC, sA, sB] at e; omega)) (fun u75 h75 => ?_)
                      obtain ⟨X75, Y75, U75, rfl, hL75⟩ := h75
                      refine z_inc4 E dX1_listEqual_78 ?_
                      refine z_goto E 53 dX1_listEqual_81 (by decide) ?_
                      exact ih53 (k + 1) _ _ _ _ (by omega) (by omega) (by omega) (hL75.congr (fun x' y' z' => orL2 (by simp only [eC]; omega))) (by omega)
              exact L53 (x + 1) 1 n1 X1 Y1 U1 (by omega) (by omega) (by omega) (hL1.congr (fun x' y' z' => orD1 (by simp only [sB]; omega))) (by omega)
            · refine z_ald0 E dX1_listEqual_34 ?_
              refine z_ild1 E dX1_listEqual_35 ?_
              refine z_ild2 E dX1_listEqual_36 ?_
              refine z_ild4 E dX1_listEqual_37 ?_
              refine z_isub E (by omega) dX1_listEqual_39 ?_
              refine z_ild3 E dX1_listEqual_40 ?_
              refine z1_c_leave E dX1_listEqual_41 (by decide) (Nat.le_of_ble_eq_true rfl) (m1_leave g a b c n1 X1 Y1 U1 W V K M d N x (y - k) z (fun x' y' z' => sA (x + 1) x y z x' y' z' ∨ sB k x y z x' y' z' ∨ eC 1 x y z x' y' z') (by omega) hL1 (fun e => by simp only [eC, sA, sB] at e; omega)) (fun u41 h41 => ?_)
              obtain ⟨X41, Y41, U41, rfl, hL41⟩ := h41
              refine z_inc4 E dX1_listEqual_44 ?_
              refine z_goto E 28 dX1_listEqual_47 (by decide) ?_
              exact ih28 (k + 1) _ _ _ _ (by omega) (by omega) (by omega) (hL41.congr (fun x' y' z' => orC1 (by simp only [sB]; omega))) (by omega)
        exact L28 (y + 1) 1 n0 X0 Y0 U0 (by omega) (by omega) (by omega) (hL0.congr (fun x' y' z' => orD0 (by simp only [sA]; omega))) (by omega)
      · refine z_ald0 E dX1_listEqual_9 ?_
        refine z_ild1 E dX1_listEqual_10 ?_
        refine z_ild4 E dX1_listEqual_11 ?_
        refine z_isub E (by omega) dX1_listEqual_13 ?_
        refine z_ild2 E dX1_listEqual_14 ?_
        refine z_ild3 E dX1_listEqual_15 ?_
        refine z1_c_leave E dX1_listEqual_16 (by decide) (Nat.le_of_ble_eq_true rfl) (m1_leave g a b c n0 X0 Y0 U0 W V K M d N (x - k) y z (fun x' y' z' => sA k x y z x' y' z' ∨ sB 1 x y z x' y' z' ∨ eC 1 x y z x' y' z') (by omega) hL0 (fun e => by simp only [eC, sA, sB] at e; omega)) (fun u16 h16 => ?_)
        obtain ⟨X16, Y16, U16, rfl, hL16⟩ := h16
        refine z_inc4 E dX1_listEqual_19 ?_
        refine z_goto E 3 dX1_listEqual_22 (by decide) ?_
        exact ih3 (k + 1) _ _ _ _ (by omega) (by omega) (by omega) (hL16.congr (fun x' y' z' => orC0 (by simp only [sA]; omega))) (by omega)
  exact L3 (x + 1) 1 0 X Y U (by omega) (by omega) (by omega) (Lst.zero X Y U (fun x' y' z' e => by simp only [eC, sA, sB] at e; omega)) (by omega)
set_option maxHeartbeats 4000000 in
set_option maxRecDepth 100000 in
theorem m1_listMultiples (g : GG) (a b c : Nat) (X Y U W V K M : Nat → Nat) (d : Nat) (N : Nat → Nat) (x y z : Nat) (hx : x ≤ 15) (hy : y ≤ 15) : C1V g yX1_listMultiples cX1_listMultiples 7 1 [.int (nI x), .int (nI y), .int (nI z)] (a, b, c, 0, X, Y, U, W, V, K, M, d, N) (fun u => ∃ (n' : Nat) (X' Y' U' : Nat → Nat), u = (a, b, c, n', X', Y', U', W, V, K, M, d, N) ∧ n' ≤ 720 ∧ Lst n' X' Y' U' (Mv 5 x y z)) := by
  refine CtV.of RX1 [some (.ref (go g)), some (.int (nI x)), some (.int (nI y)), some (.int (nI z)), none, none, none] (by decide) rfl (by intro w hw; simp at hw; rcases hw with rfl | rfl | rfl | rfl <;> rfl) (Nat.le_of_ble_eq_true rfl) rfl ?_
  intro F Q E hR
  refine z_ild1 E dX1_listMultiples_0 ?_
  refine z_if_eq E (by omega) 8 dX1_listMultiples_1 (by decide) (fun c1 => ?_) (fun c1 => ?_)
  · exact hR dX1_listMultiples_8 ⟨0, X, Y, U, rfl, by omega, Lst.zero X Y U (fun x' y' z' e => mulM_0 (by omega) ((Mv_5 rfl).mp e))⟩
  · refine z_ild2 E dX1_listMultiples_4 ?_
    refine z_if_ne E (by omega) 9 dX1_listMultiples_5 (by decide) (fun c5 => ?_) (fun c5 => ?_)
    · refine z_ild1 E dX1_listMultiples_9 ?_
      refine z_ild2 E dX1_listMultiples_10 ?_
      refine z_icmp_ge E (by omega) (by omega) 18 dX1_listMultiples_11 (by decide) (fun c11 => ?_) (fun c11 => ?_)
      · refine z_ild2 E dX1_listMultiples_18 ?_
        refine z_ist4 E dX1_listMultiples_19 ?_
        refine z_ild1 E dX1_listMultiples_21 ?_
        refine z_ild2 E dX1_listMultiples_22 ?_
        refine z_icmp_ge E (by omega) (by omega) 30 dX1_listMultiples_23 (by decide) (fun c23 => ?_) (fun c23 => ?_)
        · refine z_ild1 E dX1_listMultiples_30 ?_
          refine z_ist5 E dX1_listMultiples_31 ?_
          refine z_ild4 E dX1_listMultiples_33 ?_
          refine z_ist6 E dX1_listMultiples_35 ?_
          have L37 : ∀ (fuel : Nat) (t n' : Nat) (X' Y' U' : Nat → Nat), (1 ≤ t) → (t ≤ 16) → (n' + 2 ≤ 2 * t) → (Lst n' X' Y' U' (fun x' y' z' => mulK t t x y z x' y' z')) → (16 < t + fuel) → Z1 g F Q 7 (a, b, c, n', X', Y', U', W, V, K, M, d, N) 37 [some (.ref (go g)), some (.int (nI x)), some (.int (nI y)), some (.int (nI z)), some (.int (nI y)), some (.int (nI x)), some (.int (nI (t * y)))] [] := by
            intro fuel
            induction fuel with
            | zero =>
              intro t n' X' Y' U' h0 h1 h2 hL h3
              exfalso; omega
            | succ fuel ih37 =>
              intro t n' X' Y' U' h0 h1 h2 hL h3
              have ht : t * y ≤ 16 * 15 := Nat.mul_le_mul (by omega) (by omega)
              have ht1 : t * 1 ≤ t * y := Nat.mul_le_mul_left t (by omega)
              refine z_ild6 E dX1_listMultiples_37 ?_
              refine z_ild5 E dX1_listMultiples_39 ?_
              refine z_icmp_gt E (by omega) (by omega) 84 dX1_listMultiples_41 (by decide) (fun c41 => ?_) (fun c41 => ?_)
              · exact hR dX1_listMultiples_84 ⟨n', X', Y', U', rfl, by omega, hL.congr (fun x' y' z' => (mulK_fin (lo := y) (hi := x) (by omega) (by omega) (by omega)).trans (Mv_5 rfl).symm)⟩
              · have J59 : ∀ (n1 : Nat) (X1 Y1 U1 : Nat → Nat), (n1 + 1 ≤ 2 * t) → (Lst n1 X1 Y1 U1 (fun x' y' z' => mulK (t + 1) t x y z x' y' z')) → Z1 g F Q 7 (a, b, c, n1, X1, Y1, U1, W, V, K, M, d, N) 59 [some (.ref (go g)), some (.int (nI x)), some (.int (nI y)), some (.int (nI z)), some (.int (nI y)), some (.int (nI x)), some (.int (nI (t * y)))] [] := by
                  intro n1 X1 Y1 U1 hn1 hL1
                  have J74 : ∀ (n2 : Nat) (X2 Y2 U2 : Nat → Nat), (n2 ≤ 2 * t) → (Lst n2 X2 Y2 U2 (fun x' y' z' => mulK (t + 1) (t + 1) x y z x' y' z')) → Z1 g F Q 7 (a, b, c, n2, X2, Y2, U2, W, V, K, M, d, N) 74 [some (.ref (go g)), some (.int (nI x)), some (.int (nI y)), some (.int (nI z)), some (.int (nI y)), some (.int (nI x)), some (.int (nI (t * y)))] [] := by
                    intro n2 X2 Y2 U2 hn2 hL2
                    refine z_ild6 E dX1_listMultiples_74 ?_
                    refine z_ild4 E dX1_listMultiples_76 ?_
                    refine z_iadd E dX1_listMultiples_78 ?_
                    refine z_topN ((t + 1) * y) (by rw [Nat.add_mul, Nat.one_mul]) ?_
                    refine z_ist6 E dX1_listMultiples_79 ?_
                    refine z_goto E 37 dX1_listMultiples_81 (by decide) ?_
                    exact ih37 (t + 1) _ _ _ _ (by omega) (by omega) (by omega) hL2 (by omega)
                  refine z_ild2 E dX1_listMultiples_59 ?_
                  refine z_ild1 E dX1_listMultiples_60 ?_
                  refine z_icmp_lt E (by omega) (by omega) 74 dX1_listMultiples_61 (by decide) (fun c61 => ?_) (fun c61 => ?_)
                  · have e9 : 1 * x ≤ t * x := Nat.mul_le_mul_right x h0
                    exact J74 _ _ _ _ (by omega) (hL1.congr (fun x' y' z' => ⟨fun e => (mulK_2 (by omega) (by omega) (by omega)).mpr (Or.inl e), fun e => ((mulK_2 (by omega) (by omega) (by omega)).mp e).elim id (fun u => by omega)⟩))
                  · refine z_ald0 E dX1_listMultiples_64 ?_
                    refine z_ild1 E dX1_listMultiples_65 ?_
                    refine z_ild2 E dX1_listMultiples_66 ?_
                    refine z_ild6 E dX1_listMultiples_67 ?_
                    refine z_isub E (by omega) dX1_listMultiples_69 ?_
                    refine z_ild3 E dX1_listMultiples_70 ?_
                    refine z1_c_leave E dX1_listMultiples_71 (by decide) (Nat.le_of_ble_eq_true rfl) (m1_leave g a b c n1 X1 Y1 U1 W V K M d N x (y - t * y) z (fun x' y' z' => mulK (t + 1) t x y z x' y' z') (by omega) hL1 (by have exy : x = y := (by omega); subst exy; exact mulK_new2 h0 (by omega) (by omega))) (fun u71 h71 => ?_)
                    obtain ⟨X71, Y71, U71, rfl, hL71⟩ := h71
                    have exy : x = y := by omega
                    have e9 : t * x = t * y := by rw [exy]
                    exact J74 _ _ _ _ (by omega) (hL71.congr (fun x' y' z' => ⟨fun e => (mulK_2 (by omega) (by omega) (by omega)).mpr (e.imp id (fun u => ⟨by omega, by omega, by omega, by omega⟩)), fun e => ((mulK_2 (by omega) (by omega) (by omega)).mp e).imp id (fun u => ⟨by omega, by omega, by omega⟩)⟩))
                refine z_ild1 E dX1_listMultiples_44 ?_
                refine z_ild2 E dX1_listMultiples_45 ?_
                refine z_icmp_lt E (by omega) (by omega) 59 dX1_listMultiples_46 (by decide) (fun c46 => ?_) (fun c46 => ?_)
                · exfalso; omega
                · refine z_ald0 E dX1_listMultiples_49 ?_
                  refine z_ild1 E dX1_listMultiples_50 ?_
                  refine z_ild6 E dX1_listMultiples_51 ?_
                  refine z_isub E (by omega) dX1_listMultiples_53 ?_
                  refine z_ild2 E dX1_listMultiples_54 ?_
                  refine z_ild3 E dX1_listMultiples_55 ?_
                  refine z1_c_leave E dX1_listMultiples_56 (by decide) (Nat.le_of_ble_eq_true rfl) (m1_leave g a b c n' X' Y' U' W V K M d N (x - t * y) y z (fun x' y' z' => mulK t t x y z x' y' z') (by omega) hL (mulK_new1 h0 (by omega) (by omega))) (fun u56 h56 => ?_)
                  obtain ⟨X56, Y56, U56, rfl, hL56⟩ := h56
                  exact J59 _ _ _ _ (by omega) (hL56.congr (fun x' y' z' => ⟨fun e => (mulK_1 (by omega) (by omega) (by omega)).mpr (e.imp id (fun u => ⟨by omega, by omega, by omega, by omega⟩)), fun e => ((mulK_1 (by omega) (by omega) (by omega)).mp e).imp id (fun u => ⟨by omega, by omega, by omega⟩)⟩))
          refine z_forget [some (.ref (go g)), some (.int (nI x)), some (.int (nI y)), some (.int (nI z)), some (.int (nI y)), some (.int (nI x)), some (.int (nI (1 * y)))] (by simp [lvSub]) ?_
          exact L37 16 1 0 X Y U (by omega) (by omega) (by omega) (Lst.zero X Y U (fun _ _ _ => mulK_0)) (by omega)
        · exfalso; omega
      · refine z_ild1 E dX1_listMultiples_14 ?_
        refine z_goto E 19 dX1_listMultiples_15 (by decide) ?_
        refine z_ist4 E dX1_listMultiples_19 ?_
        refine z_ild1 E dX1_listMultiples_21 ?_
        refine z_ild2 E dX1_listMultiples_22 ?_
        refine z_icmp_ge E (by omega) (by omega) 30 dX1_listMultiples_23 (by decide) (fun c23 => ?_) (fun c23 => ?_)
        · exfalso; omega
        · refine z_ild2 E dX1_listMultiples_26 ?_
          refine z_goto E 31 dX1_listMultiples_27 (by decide) ?_
          refine z_ist5 E dX1_listMultiples_31 ?_
          refine z_ild4 E dX1_listMultiples_33 ?_
          refine z_ist6 E dX1_listMultiples_35 ?_
          have L37 : ∀ (fuel : Nat) (t n' : Nat) (X' Y' U' : Nat → Nat), (1 ≤ t) → (t ≤ 16) → (n' + 2 ≤ 2 * t) → (Lst n' X' Y' U' (fun x' y' z' => mulK t t x y z x' y' z')) → (16 < t + fuel) → Z1 g F Q 7 (a, b, c, n', X', Y', U', W, V, K, M, d, N) 37 [some (.ref (go g)), some (.int (nI x)), some (.int (nI y)), some (.int (nI z)), some (.int (nI x)), some (.int (nI y)), some (.int (nI (t * x)))] [] := by
            intro fuel
            induction fuel with
            | zero =>
              intro t n' X' Y' U' h0 h1 h2 hL h3
              exfalso; omega
            | succ fuel ih37 =>
              intro t n' X' Y' U' h0 h1 h2 hL h3
              have ht : t * x ≤ 16 * 15 := Nat.mul_le_mul (by omega) (by omega)
              have ht1 : t * 1 ≤ t * x := Nat.mul_le_mul_left t (by omega)
              refine z_ild6 E dX1_listMultiples_37 ?_
              refine z_ild5 E dX1_listMultiples_39 ?_
              refine z_icmp_gt E (by omega) (by omega) 84 dX1_listMultiples_41 (by decide) (fun c41 => ?_) (fun c41 => ?_)
              · exact hR dX1_listMultiples_84 ⟨n', X', Y', U', rfl, by omega, hL.congr (fun x' y' z' => (mulK_fin (lo := x) (hi := y) (by omega) (by omega) (by omega)).trans (Mv_5 rfl).symm)⟩
              · have J59 : ∀ (n1 : Nat) (X1 Y1 U1 : Nat → Nat), (n1 + 1 ≤ 2 * t) → (Lst n1 X1 Y1 U1 (fun x' y' z' => mulK (t + 1) t x y z x' y' z')) → Z1 g F Q 7 (a, b, c, n1, X1, Y1, U1, W, V, K, M, d, N) 59 [some (.ref (go g)), some (.int (nI x)), some (.int (nI y)), some (.int (nI z)), some (.int (nI x)), some (.int (nI y)), some (.int (nI (t * x)))] [] := by
                  intro n1 X1 Y1 U1 hn1 hL1
                  have J74 : ∀ (n2 : Nat) (X2 Y2 U2 : Nat → Nat), (n2 ≤ 2 * t) → (Lst n2 X2 Y2 U2 (fun x' y' z' => mulK (t + 1) (t + 1) x y z x' y' z')) → Z1 g F Q 7 (a, b, c, n2, X2, Y2, U2, W, V, K, M, d, N) 74 [some (.ref (go g)), some (.int (nI x)), some (.int (nI y)), some (.int (nI z)), some (.int (nI x)), some (.int (nI y)), some (.int (nI (t * x)))] [] := by
                    intro n2 X2 Y2 U2 hn2 hL2
                    refine z_ild6 E dX1_listMultiples_74 ?_
                    refine z_ild4 E dX1_listMultiples_76 ?_
                    refine z_iadd E dX1_listMultiples_78 ?_
                    refine z_topN ((t + 1) * x) (by rw [Nat.add_mul, Nat.one_mul]) ?_
                    refine z_ist6 E dX1_listMultiples_79 ?_
                    refine z_goto E 37 dX1_listMultiples_81 (by decide) ?_
                    exact ih37 (t + 1) _ _ _ _ (by omega) (by omega) (by omega) hL2 (by omega)
                  refine z_ild2 E dX1_listMultiples_59 ?_
                  refine z_ild1 E dX1_listMultiples_60 ?_
                  refine z_icmp_lt E (by omega) (by omega) 74 dX1_listMultiples_61 (by decide) (fun c61 => ?_) (fun c61 => ?_)
                  · exfalso; omega
                  · refine z_ald0 E dX1_listMultiples_64 ?_
                    refine z_ild1 E dX1_listMultiples_65 ?_
                    refine z_ild2 E dX1_listMultiples_66 ?_
                    refine z_ild6 E dX1_listMultiples_67 ?_
                    refine z_isub E (by omega) dX1_listMultiples_69 ?_
                    refine z_ild3 E dX1_listMultiples_70 ?_
                    refine z1_c_leave E dX1_listMultiples_71 (by decide) (Nat.le_of_ble_eq_true rfl) (m1_leave g a b c n1 X1 Y1 U1 W V K M d N x (y - t * x) z (fun x' y' z' => mulK (t + 1) t x y z x' y' z') (by omega) hL1 (mulK_new2 h0 (by omega) (by omega))) (fun u71 h71 => ?_)
                    obtain ⟨X71, Y71, U71, rfl, hL71⟩ := h71
                    exact J74 _ _ _ _ (by omega) (hL71.congr (fun x' y' z' => ⟨fun e => (mulK_2 (by omega) (by omega) (by omega)).mpr (e.imp id (fun u => ⟨by omega, by omega, by omega, by omega⟩)), fun e => ((mulK_2 (by omega) (by omega) (by omega)).mp e).imp id (fun u => ⟨by omega, by omega, by omega⟩)⟩))
                refine z_ild1 E dX1_listMultiples_44 ?_
                refine z_ild2 E dX1_listMultiples_45 ?_
                refine z_icmp_lt E (by omega) (by omega) 59 dX1_listMultiples_46 (by decide) (fun c46 => ?_) (fun c46 => ?_)
                · have e9 : 1 * y ≤ t * y := Nat.mul_le_mul_right y h0
                  exact J59 _ _ _ _ (by omega) (hL.congr (fun x' y' z' => ⟨fun e => (mulK_1 (by omega) (by omega) (by omega)).mpr (Or.inl e), fun e => ((mulK_1 (by omega) (by omega) (by omega)).mp e).elim id (fun u => by omega)⟩))
                · exfalso; omega
          refine z_forget [some (.ref (go g)), some (.int (nI x)), some (.int (nI y)), some (.int (nI z)), some (.int (nI x)), some (.int (nI y)), some (.int (nI (1 * x)))] (by simp [lvSub]) ?_
          exact L37 16 1 0 X Y U (by omega) (by omega) (by omega) (Lst.zero X Y U (fun _ _ _ => mulK_0)) (by omega)
    · exact hR dX1_listMultiples_8 ⟨0, X, Y, U, rfl, by omega, Lst.zero X Y U (fun x' y' z' e => mulM_0 (by omega) ((Mv_5 rfl).mp e))⟩
/-- positions that the reference looks at -/
def Bq (q x y z : Nat) : Prop := (q = 3 ∧ x + y + z ≤ 45 ∧ y + z ≤ 30 ∧ z ≤ 15) ∨ (q ≠ 3 ∧ x ≤ 15 ∧ y ≤ 15 ∧ z ≤ 15)
theorem Bq.n3 {q x y z : Nat} (h : Bq q x y z) (hq : q ≠ 3) : x ≤ 15 ∧ y ≤ 15 ∧ z ≤ 15 := by unfold Bq at h; omega
theorem Bq.is3 {q x y z : Nat} (h : Bq q x y z) (hq : q = 3) : x + y + z ≤ 45 ∧ y + z ≤ 30 ∧ z ≤ 15 := by unfold Bq at h; omega
theorem Bq.bd {q x y z : Nat} (h : Bq q x y z) : x ≤ 45 ∧ y ≤ 30 ∧ z ≤ 15 := by unfold Bq at h; omega
set_option maxHeartbeats 4000000 in
set_option maxRecDepth 100000 in
theorem m1_list (g : GG) (a b c n : Nat) (X Y U W V K M : Nat → Nat) (d : Nat) (N : Nat → Nat) (q x y z : Nat) (hq : q ≤ 7) (h6 : q ≠ 6) (hB : Bq q x y z) : C1V g yX1_list cX1_list 5 2 [.int (nI q), .int (nI x), .int (nI y), .int (nI z)] (a, b, c, n, X, Y, U, W, V, K, M, d, N) (fun u => ∃ (n' : Nat) (X' Y' U' : Nat → Nat), u = (a, b, c, n', X', Y', U', W, V, K, M, d, N) ∧ n' ≤ 720 ∧ Lst n' X' Y' U' (Mv q x y z)) := by
  refine CtV.of RX1 [some (.ref (go g)), some (.int (nI q)), some (.int (nI x)), some (.int (nI y)), some (.int (nI z))] (by decide) rfl (by intro w hw; simp at hw; rcases hw with rfl | rfl | rfl | rfl | rfl <;> rfl) (Nat.le_of_ble_eq_true rfl) rfl ?_
  intro F Q E hR
  refine z_ald0 E dX1_list_0 ?_
  refine z_ic0 E dX1_list_1 ?_
  refine z1_put_count E dX1_list_2 ?_
  refine z_ild1 E dX1_list_5 ?_
  refine z_ic3 E dX1_list_6 ?_
  refine z_icmp_ne E (by omega) (by omega) 21 dX1_list_7 (by decide) (fun c7 => ?_) (fun c7 => ?_)
  · refine z_ild1 E dX1_list_21 ?_
    refine z_ic4 E dX1_list_22 ?_
    refine z_icmp_ne E (by omega) (by omega) 37 dX1_list_23 (by decide) (fun c23 => ?_) (fun c23 => ?_)
    · refine z_ild1 E dX1_list_37 ?_
      refine z_ic5 E dX1_list_38 ?_
      refine z_icmp_ne E (by omega) (by omega) 53 dX1_list_39 (by decide) (fun c39 => ?_) (fun c39 => ?_)
      · have hB3 := hB.n3 (by omega)
        refine z_ald0 E dX1_list_53 ?_
        refine z_ild1 E dX1_list_54 ?_
        refine z_ild2 E dX1_list_55 ?_
        refine z_ild3 E dX1_list_56 ?_
        refine z_ild4 E dX1_list_57 ?_
        refine z1_c_listSingles E dX1_list_59 (by decide) (Nat.le_of_ble_eq_true rfl) (m1_listSingles g a b c X Y U W V K M d N q x y z (by omega) (by omega) (by omega) (by omega)) (fun u59 h59 => ?_)
        obtain ⟨n59, X59, Y59, U59, rfl, hn59, hL59⟩ := h59
        exact hR dX1_list_62 ⟨n59, X59, Y59, U59, rfl, hn59, hL59⟩
      · obtain rfl : q = 5 := c39
        have hB3 := hB.n3 (by omega)
        refine z_ald0 E dX1_list_42 ?_
        refine z_ild2 E dX1_list_43 ?_
        refine z_ild3 E dX1_list_44 ?_
        refine z_ild4 E dX1_list_45 ?_
        refine z1_c_listMultiples E dX1_list_47 (by decide) (Nat.le_of_ble_eq_true rfl) (m1_listMultiples g a b c X Y U W V K M d N x y z (by omega) (by omega)) (fun u47 h47 => ?_)
        obtain ⟨n47, X47, Y47, U47, rfl, hn47, hL47⟩ := h47
        refine z_goto E 62 dX1_list_50 (by decide) ?_
        exact hR dX1_list_62 ⟨n47, X47, Y47, U47, rfl, hn47, hL47⟩
    · obtain rfl : q = 4 := c23
      have hB3 := hB.n3 (by omega)
      refine z_ald0 E dX1_list_26 ?_
      refine z_ild2 E dX1_list_27 ?_
      refine z_ild3 E dX1_list_28 ?_
      refine z_ild4 E dX1_list_29 ?_
      refine z1_c_listEqual E dX1_list_31 (by decide) (Nat.le_of_ble_eq_true rfl) (m1_listEqual g a b c X Y U W V K M d N x y z (by omega) (by omega) (by omega)) (fun u31 h31 => ?_)
      obtain ⟨n31, X31, Y31, U31, rfl, hn31, hL31⟩ := h31
      refine z_goto E 62 dX1_list_34 (by decide) ?_
      exact hR dX1_list_62 ⟨n31, X31, Y31, U31, rfl, hn31, hL31⟩
  · obtain rfl : q = 3 := c7
    have hB3 := hB.is3 rfl
    refine z_ald0 E dX1_list_10 ?_
    refine z_ild2 E dX1_list_11 ?_
    refine z_ild3 E dX1_list_12 ?_
    refine z_ild4 E dX1_list_13 ?_
    refine z1_c_listPushes E dX1_list_15 (by decide) (Nat.le_of_ble_eq_true rfl) (m1_listPushes g a b c X Y U W V K M d N x y z (by omega) (by omega) (by omega)) (fun u15 h15 => ?_)
    obtain ⟨n15, X15, Y15, U15, rfl, hn15, hL15⟩ := h15
    refine z_goto E 62 dX1_list_18 (by decide) ?_
    exact hR dX1_list_62 ⟨n15, X15, Y15, U15, rfl, hn15, hL15⟩
end
section
set_option maxRecDepth 100000
/-! THE GAMES: closed forms against moves -/
theorem xor_c1 {x x' w : Nat} (h : x ^^^ w = x' ^^^ w) : x = x' := by
  have e : (x ^^^ w) ^^^ w = (x' ^^^ w) ^^^ w := by rw [h]
  rw [Nat.xor_assoc, Nat.xor_assoc, Nat.xor_self, Nat.xor_zero, Nat.xor_zero] at e
  exact e
theorem xor3x {x x' y z : Nat} (h : x ^^^ y ^^^ z = x' ^^^ y ^^^ z) : x = x' := xor_c1 (xor_c1 h)
theorem xor3y {x y y' z : Nat} (h : x ^^^ y ^^^ z = x ^^^ y' ^^^ z) : y = y' := by
  have h1 := xor_c1 h
  rw [Nat.xor_comm x y, Nat.xor_comm x y'] at h1
  exact xor_c1 h1
theorem xor3z {x y z z' : Nat} (h : x ^^^ y ^^^ z = x ^^^ y ^^^ z') : z = z' := by
  rw [Nat.xor_comm (x ^^^ y) z, Nat.xor_comm (x ^^^ y) z'] at h
  exact xor_c1 h
theorem xor_sx (y z v : Nat) : (y ^^^ z ^^^ v) ^^^ y ^^^ z = v := by
  apply Nat.eq_of_testBit_eq
  intro i
  simp only [Nat.testBit_xor]
  cases y.testBit i <;> cases z.testBit i <;> cases v.testBit i <;> rfl
theorem xor_sy (x z v : Nat) : x ^^^ (x ^^^ z ^^^ v) ^^^ z = v := by
  apply Nat.eq_of_testBit_eq
  intro i
  simp only [Nat.testBit_xor]
  cases x.testBit i <;> cases z.testBit i <;> cases v.testBit i <;> rfl
theorem xor_sz (x y v : Nat) : x ^^^ y ^^^ (x ^^^ y ^^^ v) = v := by
  apply Nat.eq_of_testBit_eq
  intro i
  simp only [Nat.testBit_xor]
  cases x.testBit i <;> cases y.testBit i <;> cases v.testBit i <;> rfl
/-- a smaller sum of bits is reached from one heap -/
theorem nim_low : ∀ x, x < 16 → ∀ y, y < 16 → ∀ z, z < 16 → ∀ v, v < x ^^^ y ^^^ z → y ^^^ z ^^^ v < x ∨ x ^^^ z ^^^ v < y ∨ x ^^^ y ^^^ v < z := by decide +kernel
theorem nim_move {x y z v : Nat} (hx : x ≤ 15) (hy : y ≤ 15) (hz : z ≤ 15) (hv : v < x ^^^ y ^^^ z) : ∃ x' y' z', oneM 15 x y z x' y' z' ∧ x' ^^^ y' ^^^ z' = v := by
  rcases nim_low x (by omega) y (by omega) z (by omega) v hv with h | h | h
  · exact ⟨y ^^^ z ^^^ v, y, z, Or.inl ⟨h, by omega, rfl, rfl⟩, xor_sx y z v⟩
  · exact ⟨x, x ^^^ z ^^^ v, z, Or.inr (Or.inl ⟨rfl, h, by omega, rfl⟩), xor_sy x z v⟩
  · exact ⟨x, y, x ^^^ y ^^^ v, Or.inr (Or.inr ⟨rfl, rfl, h, by omega⟩), xor_sz x y v⟩
theorem nim_ne {m x y z x' y' z' : Nat} (h : oneM m x y z x' y' z') : x' ^^^ y' ^^^ z' ≠ x ^^^ y ^^^ z := by
  intro e
  rcases h with ⟨h1, _, rfl, rfl⟩ | ⟨rfl, h1, _, rfl⟩ | ⟨rfl, rfl, h1, _⟩
  · have := xor3x e; omega
  · have := xor3y e; omega
  · have := xor3z e; omega
/-- some one-heap move with f -/
def oneAny (m : Nat) (f : Nat → Nat → Nat → Bool) (x y z : Nat) : Bool :=
  (List.range x).any (fun k => Nat.ble (x - k) m && f k y z) || ((List.range y).any (fun k => Nat.ble (y - k) m && f x k z) || (List.range z).any (fun k => Nat.ble (z - k) m && f x y k))
theorem oneAny_spec {m x y z : Nat} {f : Nat → Nat → Nat → Bool} : oneAny m f x y z = true ↔ ∃ x' y' z', oneM m x y z x' y' z' ∧ f x' y' z' = true := by
  unfold oneAny
  simp only [Bool.or_eq_true, List.any_eq_true, List.mem_range, Bool.and_eq_true, Nat.ble_eq]
  constructor
  · rintro (⟨k, h1, h2, h3⟩ | ⟨k, h1, h2, h3⟩ | ⟨k, h1, h2, h3⟩)
    · exact ⟨k, y, z, Or.inl ⟨h1, h2, rfl, rfl⟩, h3⟩
    · exact ⟨x, k, z, Or.inr (Or.inl ⟨rfl, h1, h2, rfl⟩), h3⟩
    · exact ⟨x, y, k, Or.inr (Or.inr ⟨rfl, rfl, h1, h2⟩), h3⟩
  · rintro ⟨x', y', z', ⟨h1, h2, rfl, rfl⟩ | ⟨rfl, h1, h2, rfl⟩ | ⟨rfl, rfl, h1, h2⟩, h3⟩
    · exact Or.inl ⟨x', h1, h2, h3⟩
    · exact Or.inr (Or.inl ⟨y', h1, h2, h3⟩)
    · exact Or.inr (Or.inr ⟨z', h1, h2, h3⟩)
theorem mis_chk : ∀ x, x < 16 → ∀ y, y < 16 → ∀ z, z < 16 → lastB x y z = ((Nat.beq x 0 && Nat.beq y 0 && Nat.beq z 0) || oneAny 15 (fun a b c => !lastB a b c) x y z) := by decide +kernel
def x3 (x y z : Nat) : Nat := (x ^^^ y ^^^ z) &&& 3
theorem sub_chk : ∀ x, x < 16 → ∀ y, y < 16 → ∀ z, z < 16 → oneAny 3 (fun a b c => Nat.beq (x3 a b c) (x3 x y z)) x y z = false := by decide +kernel
theorem sub_low : ∀ x, x < 16 → ∀ y, y < 16 → ∀ z, z < 16 → ∀ v, v < x3 x y z → oneAny 3 (fun a b c => Nat.beq (x3 a b c) v) x y z = true := by decide +kernel
theorem sub_ne {x y z x' y' z' : Nat} (hx : x ≤ 15) (hy : y ≤ 15) (hz : z ≤ 15) (h : oneM 3 x y z x' y' z') : x3 x' y' z' ≠ x3 x y z := by
  intro e
  have h1 := sub_chk x (by omega) y (by omega) z (by omega)
  have h2 : oneAny 3 (fun a b c => Nat.beq (x3 a b c) (x3 x y z)) x y z = true := oneAny_spec.mpr ⟨x', y', z', h, by rw [e]; exact Nat.beq_refl _⟩
  rw [h1] at h2
  cases h2
theorem sub_move {x y z v : Nat} (hx : x ≤ 15) (hy : y ≤ 15) (hz : z ≤ 15) (hv : v < x3 x y z) : ∃ x' y' z', oneM 3 x y z x' y' z' ∧ x3 x' y' z' = v := by
  obtain ⟨x', y', z', h1, h2⟩ := oneAny_spec.mp (sub_low x (by omega) y (by omega) z (by omega) v hv)
  exact ⟨x', y', z', h1, Nat.eq_of_beq_eq_true h2⟩
def eqAny (f : Nat → Nat → Bool) (x y : Nat) : Bool := (List.range x).any (fun k => f k y) || ((List.range y).any (fun k => f x k) || (List.range (min x y)).any (fun k => f (x - (k + 1)) (y - (k + 1))))
theorem eqAny_spec {x y z : Nat} {f : Nat → Nat → Bool} : eqAny f x y = true ↔ ∃ x' y' z', eqM x y z x' y' z' ∧ f x' y' = true := by
  unfold eqAny
  simp only [Bool.or_eq_true, List.any_eq_true, List.mem_range]
  constructor
  · rintro (⟨k, h1, h3⟩ | ⟨k, h1, h3⟩ | ⟨k, h1, h3⟩)
    · exact ⟨k, y, z, Or.inl ⟨h1, rfl, rfl⟩, h3⟩
    · exact ⟨x, k, z, Or.inr (Or.inl ⟨rfl, h1, rfl⟩), h3⟩
    · exact ⟨x - (k + 1), y - (k + 1), z, Or.inr (Or.inr ⟨by omega, by omega, by omega, rfl⟩), h3⟩
  · rintro ⟨x', y', z', ⟨h1, rfl, rfl⟩ | ⟨rfl, h1, rfl⟩ | ⟨h1, h2, h3, rfl⟩, h4⟩
    · exact Or.inl ⟨x', h1, h4⟩
    · exact Or.inr (Or.inl ⟨y', h1, h4⟩)
    · refine Or.inr (Or.inr ⟨x - x' - 1, by omega, ?_⟩)
      rw [show x - (x - x' - 1 + 1) = x' by omega, show y - (x - x' - 1 + 1) = y' by omega]
      exact h4
theorem gold_chk : ∀ x, x < 16 → ∀ y, y < 16 → goldB x y = eqAny (fun a b => !goldB a b) x y := by decide +kernel
def mulAny (f : Nat → Nat → Bool) (x y : Nat) : Bool := Nat.blt 0 x && (Nat.blt 0 y && ((List.range 15).any (fun t => Nat.ble ((t + 1) * y) x && f (x - (t + 1) * y) y) || (List.range 15).any (fun t => Nat.ble ((t + 1) * x) y && f x (y - (t + 1) * x))))
theorem blt_iff {a b : Nat} : Nat.blt a b = true ↔ a < b := by unfold Nat.blt; rw [Nat.ble_eq]; omega
theorem mulAny_spec {x y z : Nat} {f : Nat → Nat → Bool} (hx : x ≤ 15) (hy : y ≤ 15) : mulAny f x y = true ↔ ∃ x' y' z', mulM x y z x' y' z' ∧ f x' y' = true := by
  unfold mulAny
  simp only [Bool.or_eq_true, List.any_eq_true, List.mem_range, Bool.and_eq_true, Nat.ble_eq, blt_iff]
  constructor
  · rintro ⟨h1, h2, ⟨t, h3, h4, h5⟩ | ⟨t, h3, h4, h5⟩⟩
    · exact ⟨_, y, z, ⟨h1, h2, rfl, Or.inl ⟨rfl, t + 1, by omega, h4, rfl⟩⟩, h5⟩
    · exact ⟨x, _, z, ⟨h1, h2, rfl, Or.inr ⟨rfl, t + 1, by omega, h4, rfl⟩⟩, h5⟩
  · rintro ⟨x', y', z', ⟨h1, h2, h3, ⟨h4, t, h5, h6, h7⟩ | ⟨h4, t, h5, h6, h7⟩⟩, h8⟩
    · have e : t - 1 + 1 = t := by omega
      have e2 := Nat.le_mul_of_pos_right t h2
      refine ⟨h1, h2, Or.inl ⟨t - 1, by omega, by rw [e]; exact h6, ?_⟩⟩
      rw [e, ← h7, ← h4]; exact h8
    · have e : t - 1 + 1 = t := by omega
      have e2 := Nat.le_mul_of_pos_right t h1
      refine ⟨h1, h2, Or.inr ⟨t - 1, by omega, by rw [e]; exact h6, ?_⟩⟩
      rw [e, ← h7, ← h4]; exact h8
theorem rat_chk : ∀ x, x < 16 → ∀ y, y < 16 → ratB x y = mulAny (fun a b => !ratB a b) x y := by decide +kernel
/-- the value of a position, where the reference asks for it -/
def valB (q x y z : Nat) : Nat := if q = 0 then x ^^^ y ^^^ z else if q = 7 then x3 x y z else 0
theorem valB_le {q x y z : Nat} (hB : Bq q x y z) : valB q x y z ≤ 15 := by
  unfold valB
  split
  · have h := hB.n3 (by omega)
    have := Nat.xor_lt_two_pow (n := 4) (Nat.xor_lt_two_pow (n := 4) (show x < 2 ^ 4 by omega) (show y < 2 ^ 4 by omega)) (show z < 2 ^ 4 by omega)
    omega
  · split
    · have : x3 x y z ≤ 3 := Nat.and_le_right
      omega
    · omega
/-- the rule of every game: won when some move leads to a lost position (game 1: or when there is no move) -/
theorem game_win {q x y z : Nat} (hq : q ≤ 7) (h6 : q ≠ 6) (hB : Bq q x y z) : wonB q x y z = true ↔ (q = 1 ∧ ¬ ∃ x' y' z', Mv q x y z x' y' z') ∨ ∃ x' y' z', Mv q x y z x' y' z' ∧ wonB q x' y' z' = false := by
  rcases (show q = 0 ∨ q = 1 ∨ q = 2 ∨ q = 3 ∨ q = 4 ∨ q = 5 ∨ q = 7 by omega) with h | h | h | h | h | h | h
  · obtain ⟨hx, hy, hz⟩ := hB.n3 (by omega)
    subst h
    constructor
    · intro h
      rw [wonB_0 rfl, decide_eq_true_eq] at h
      obtain ⟨x', y', z', h1, h2⟩ := nim_move (v := 0) hx hy hz (by omega)
      exact Or.inr ⟨x', y', z', (Mv_o (by omega)).mpr h1, by rw [wonB_0 rfl]; exact decide_eq_false (fun t => t h2)⟩
    · rintro (⟨h, _⟩ | ⟨x', y', z', h1, h2⟩)
      · exact absurd h (by decide)
      · rw [wonB_0 rfl, decide_eq_false_iff_not] at h2
        rw [wonB_0 rfl, decide_eq_true_eq]
        intro e
        exact nim_ne ((Mv_o (by omega)).mp h1) (by rw [e]; exact Classical.not_not.mp h2)
  · obtain ⟨hx, hy, hz⟩ := hB.n3 (by omega)
    subst h
    rw [wonB_1 rfl, mis_chk x (by omega) y (by omega) z (by omega), Bool.or_eq_true, oneAny_spec]
    constructor
    · rintro (h | ⟨x', y', z', h1, h2⟩)
      · left
        simp only [Bool.and_eq_true, Nat.beq_eq] at h
        refine ⟨rfl, fun ⟨x', y', z', h1⟩ => ?_⟩
        have := (Mv_o (by omega)).mp h1
        unfold oneM at this
        omega
      · right
        exact ⟨x', y', z', (Mv_o (by omega)).mpr h1, by rw [wonB_1 rfl]; simpa using h2⟩
    · rintro (⟨_, h⟩ | ⟨x', y', z', h1, h2⟩)
      · left
        simp only [Bool.and_eq_true, Nat.beq_eq]
        have k1 : x = 0 := by
          rcases Nat.eq_zero_or_pos x with e | e
          · exact e
          · exact absurd ⟨x - 1, y, z, (Mv_o (by omega)).mpr (Or.inl ⟨by omega, by omega, rfl, rfl⟩)⟩ h
        have k2 : y = 0 := by
          rcases Nat.eq_zero_or_pos y with e | e
          · exact e
          · exact absurd ⟨x, y - 1, z, (Mv_o (by omega)).mpr (Or.inr (Or.inl ⟨rfl, by omega, by omega, rfl⟩))⟩ h
        have k3 : z = 0 := by
          rcases Nat.eq_zero_or_pos z with e | e
          · exact e
          · exact absurd ⟨x, y, z - 1, (Mv_o (by omega)).mpr (Or.inr (Or.inr ⟨rfl, rfl, by omega, by omega⟩))⟩ h
        exact ⟨⟨k1, k2⟩, k3⟩
      · right
        rw [wonB_1 rfl] at h2
        exact ⟨x', y', z', (Mv_o (by omega)).mp h1, by rw [h2]; rfl⟩
  · obtain ⟨hx, hy, hz⟩ := hB.n3 (by omega)
    subst h
    rw [wonB_2 rfl, decide_eq_true_eq]
    constructor
    · intro h
      right
      obtain ⟨m, hm⟩ : ∃ m, m ≤ x ∧ m ≤ y ∧ m ≤ z ∧ (m = x ∨ m = y ∨ m = z) := by
        rcases Nat.lt_or_ge x y with h1 | h1
        · rcases Nat.lt_or_ge x z with h2 | h2
          · exact ⟨x, by omega⟩
          · exact ⟨z, by omega⟩
        · rcases Nat.lt_or_ge y z with h2 | h2
          · exact ⟨y, by omega⟩
          · exact ⟨z, by omega⟩
      refine ⟨m, m, m, ?_, by rw [wonB_2 rfl]; exact decide_eq_false (by omega)⟩
      rw [Mv_2 rfl]
      unfold oneM twoM
      omega
    · rintro (⟨h, _⟩ | ⟨x', y', z', h1, h2⟩)
      · exact absurd h (by decide)
      · rw [wonB_2 rfl, decide_eq_false_iff_not] at h2
        rw [Mv_2 rfl] at h1
        unfold oneM twoM at h1
        omega
  · subst h
    rw [wonB_3 rfl, decide_eq_true_eq]
    constructor
    · intro h
      right
      rcases Nat.lt_or_ge z x with h1 | h1
      · exact ⟨z, y, z, (Mv_3 rfl).mpr (Or.inl ⟨h1, rfl, rfl⟩), by rw [wonB_3 rfl]; exact decide_eq_false (by omega)⟩
      · exact ⟨x, y + (z - x), x, (Mv_3 rfl).mpr (Or.inr (Or.inr ⟨by omega, rfl, rfl⟩)), by rw [wonB_3 rfl]; exact decide_eq_false (by omega)⟩
    · rintro (⟨h, _⟩ | ⟨x', y', z', h1, h2⟩)
      · exact absurd h (by decide)
      · rw [wonB_3 rfl, decide_eq_false_iff_not] at h2
        rw [Mv_3 rfl] at h1
        unfold pushM at h1
        omega
  · obtain ⟨hx, hy, hz⟩ := hB.n3 (by omega)
    subst h
    rw [wonB_4 rfl, gold_chk x (by omega) y (by omega), eqAny_spec (z := z)]
    constructor
    · rintro ⟨x', y', z', h1, h2⟩
      exact Or.inr ⟨x', y', z', (Mv_4 rfl).mpr h1, by rw [wonB_4 rfl]; simpa using h2⟩
    · rintro (⟨h, _⟩ | ⟨x', y', z', h1, h2⟩)
      · exact absurd h (by decide)
      · rw [wonB_4 rfl] at h2
        exact ⟨x', y', z', (Mv_4 rfl).mp h1, by rw [h2]; rfl⟩
  · obtain ⟨hx, hy, hz⟩ := hB.n3 (by omega)
    subst h
    rw [wonB_5 rfl, rat_chk x (by omega) y (by omega), mulAny_spec (z := z) hx hy]
    constructor
    · rintro ⟨x', y', z', h1, h2⟩
      exact Or.inr ⟨x', y', z', (Mv_5 rfl).mpr h1, by rw [wonB_5 rfl]; simpa using h2⟩
    · rintro (⟨h, _⟩ | ⟨x', y', z', h1, h2⟩)
      · exact absurd h (by decide)
      · rw [wonB_5 rfl] at h2
        exact ⟨x', y', z', (Mv_5 rfl).mp h1, by rw [h2]; rfl⟩
  · obtain ⟨hx, hy, hz⟩ := hB.n3 (by omega)
    subst h
    constructor
    · intro h
      rw [wonB_7 (by decide), decide_eq_true_eq] at h
      obtain ⟨x', y', z', h1, h2⟩ := sub_move (v := 0) hx hy hz (Nat.pos_of_ne_zero h)
      exact Or.inr ⟨x', y', z', (Mv_7 rfl).mpr h1, by rw [wonB_7 (by decide)]; exact decide_eq_false (fun t => t h2)⟩
    · rintro (⟨h, _⟩ | ⟨x', y', z', h1, h2⟩)
      · exact absurd h (by decide)
      · rw [wonB_7 (by decide), decide_eq_false_iff_not] at h2
        rw [wonB_7 (by decide), decide_eq_true_eq]
        intro e
        exact sub_ne hx hy hz ((Mv_7 rfl).mp h1) (show x3 x' y' z' = x3 x y z by unfold x3; rw [e]; exact Classical.not_not.mp h2)
/-- the least value that no move has -/
theorem game_mex {q x y z v : Nat} (hq : q = 0 ∨ q = 7) (hB : Bq q x y z) (h0 : ¬ ∃ x' y' z', Mv q x y z x' y' z' ∧ valB q x' y' z' = v) (h1 : ∀ u, u < v → ∃ x' y' z', Mv q x y z x' y' z' ∧ valB q x' y' z' = u) : v = valB q x y z := by
  obtain ⟨hx, hy, hz⟩ := hB.n3 (by omega)
  rcases hq with rfl | rfl
  · rcases Nat.lt_trichotomy v (valB 0 x y z) with h | h | h
    · obtain ⟨x', y', z', k1, k2⟩ := nim_move hx hy hz (show v < x ^^^ y ^^^ z from h)
      exact absurd ⟨x', y', z', (Mv_o (by omega)).mpr k1, k2⟩ h0
    · exact h
    · obtain ⟨x', y', z', k1, k2⟩ := h1 _ h
      exact absurd k2 (nim_ne ((Mv_o (by omega)).mp k1))
  · rcases Nat.lt_trichotomy v (valB 7 x y z) with h | h | h
    · obtain ⟨x', y', z', k1, k2⟩ := sub_move hx hy hz (show v < x3 x y z from h)
      exact absurd ⟨x', y', z', (Mv_7 rfl).mpr k1, k2⟩ h0
    · exact h
    · obtain ⟨x', y', z', k1, k2⟩ := h1 _ h
      exact absurd k2 (sub_ne hx hy hz ((Mv_7 rfl).mp k1))
/-! game 6 -/
theorem fib_A : ∀ n, n < 61 → ∀ k, k < lpv n → 0 < k → wwB (n - k) (2 * k) = true := by decide +kernel
theorem fib_B : ∀ n, n < 61 → 0 < n → lpv n ≤ n ∧ 1 ≤ lpv n ∧ wwB (n - lpv n) (2 * lpv n) = false := by decide +kernel
theorem fib_win {n l : Nat} (hn : n ≤ 60) : wwB n l = true ↔ ∃ k, 1 ≤ k ∧ k ≤ n ∧ k ≤ l ∧ wwB (n - k) (2 * k) = false := by
  constructor
  · intro h
    unfold wwB at h
    rw [decide_eq_true_eq] at h
    obtain ⟨h1, h2, h3⟩ := fib_B n (by omega) h.1
    exact ⟨lpv n, h2, h1, h.2, h3⟩
  · rintro ⟨k, h1, h2, h3, h4⟩
    unfold wwB
    rw [decide_eq_true_eq]
    refine ⟨by omega, ?_⟩
    rcases Nat.lt_or_ge k (lpv n) with h | h
    · rw [fib_A n (by omega) k h h1] at h4; cases h4
    · omega
def am (l : Nat) : Nat := if l > 60 then 60 else l
theorem ww_am {n l : Nat} : wwB n (am l) = wwB n l := by
  have hb := lpv_bd n
  unfold wwB am
  split
  · by_cases h : 0 < n
    · rw [decide_eq_true (by omega), decide_eq_true (by omega)]
    · rw [decide_eq_false (by omega), decide_eq_false (by omega)]
  · rfl
end
section
set_option maxRecDepth 100000
/-- an int that is x - d -/
def Rel (X : Int32) (x d : Nat) : Prop := (x < d ∧ X < 0) ∨ (d ≤ x ∧ X = nI (x - d))
theorem rel_0 (x : Nat) : Rel (nI x) x 0 := Or.inr ⟨Nat.zero_le _, rfl⟩
theorem rel_sub {x k : Nat} (hk : k < 1073741824) : Rel (nI x - nI k) x k := by
  rcases Nat.lt_or_ge x k with h | h
  · exact Or.inl ⟨h, pk_sneg hk h⟩
  · exact Or.inr ⟨h, pk_sub h⟩
theorem Rel.neg {X : Int32} {x d : Nat} (h : Rel X x d) (hx : x < 2147483648) (h0 : X < 0) : x < d := by
  rcases h with h | ⟨h1, rfl⟩
  · exact h.1
  · exact absurd h0 (nI_pos (show x - d < 2 ^ 31 by omega))
theorem Rel.pos {X : Int32} {x d : Nat} (h : Rel X x d) (h0 : ¬ X < 0) : d ≤ x ∧ X = nI (x - d) := by
  rcases h with h | h
  · exact absurd h.2 h0
  · exact h
/-- where a position stands in the tables -/
abbrev ky (x y z : Nat) : Nat := (z * 31 + y) * 46 + x
theorem fl_row {W : Nat → Nat} {k x y z : Nat} (hA : ∀ x' y' z', SP 2 k k k k 1 1 1 x y z x' y' z' → W (ky x' y' z') ≠ 0) (e1 : ¬ (k ≤ x ∧ 0 ≤ y ∧ 0 ≤ z ∧ W (ky (x - k) y z) = 0)) (e2 : ¬ (0 ≤ x ∧ k ≤ y ∧ 0 ≤ z ∧ W (ky x (y - k) z) = 0)) (e3 : ¬ (0 ≤ x ∧ 0 ≤ y ∧ k ≤ z ∧ W (ky x y (z - k)) = 0)) :
    ∀ x' y' z', SP 2 (k + 1) (k + 1) (k + 1) k 1 1 1 x y z x' y' z' → W (ky x' y' z') ≠ 0 := by
  intro x' y' z' h
  rcases h with h | h | h | h
  · rcases Nat.lt_or_ge (x - x') k with q | q
    · exact hA x' y' z' (Or.inl ⟨h.1, q, h.2.2⟩)
    · obtain ⟨h1, h2, rfl, rfl⟩ := h
      have e : x' = x - k := by omega
      subst e
      exact fun t => e1 ⟨by omega, Nat.zero_le _, Nat.zero_le _, t⟩
  · rcases Nat.lt_or_ge (y - y') k with q | q
    · exact hA x' y' z' (Or.inr (Or.inl ⟨h.1, h.2.1, q, h.2.2.2⟩))
    · obtain ⟨rfl, h1, h2, rfl⟩ := h
      have e : y' = y - k := by omega
      subst e
      exact fun t => e2 ⟨Nat.zero_le _, by omega, Nat.zero_le _, t⟩
  · rcases Nat.lt_or_ge (z - z') k with q | q
    · exact hA x' y' z' (Or.inr (Or.inr (Or.inl ⟨h.1, h.2.1, h.2.2.1, q⟩)))
    · obtain ⟨rfl, rfl, h1, h2⟩ := h
      have e : z' = z - k := by omega
      subst e
      exact fun t => e3 ⟨Nat.zero_le _, Nat.zero_le _, by omega, t⟩
  · exact hA x' y' z' (Or.inr (Or.inr (Or.inr h)))
theorem fl_in {W : Nat → Nat} {k m x y z : Nat} (hA : ∀ x' y' z', SP 2 (k + 1) (k + 1) (k + 1) k m m m x y z x' y' z' → W (ky x' y' z') ≠ 0) (hk : 1 ≤ k) (hm : 1 ≤ m) (e1 : ¬ (k ≤ x ∧ m ≤ y ∧ 0 ≤ z ∧ W (ky (x - k) (y - m) z) = 0)) (e2 : ¬ (k ≤ x ∧ 0 ≤ y ∧ m ≤ z ∧ W (ky (x - k) y (z - m)) = 0)) (e3 : ¬ (0 ≤ x ∧ k ≤ y ∧ m ≤ z ∧ W (ky x (y - k) (z - m)) = 0)) :
    ∀ x' y' z', SP 2 (k + 1) (k + 1) (k + 1) k (m + 1) (m + 1) (m + 1) x y z x' y' z' → W (ky x' y' z') ≠ 0 := by
  intro x' y' z' h
  rcases h with h | h | h | h | h | h
  · exact hA x' y' z' (Or.inl h)
  · exact hA x' y' z' (Or.inr (Or.inl h))
  · exact hA x' y' z' (Or.inr (Or.inr (Or.inl h)))
  · obtain ⟨h0, h1, h2, h3, h4⟩ := h
    by_cases q : x - x' = k ∧ y - y' = m
    · have e5 : x' = x - k := by omega
      have e6 : y' = y - m := by omega
      subst h3 e5 e6
      exact fun t => e1 ⟨by omega, by omega, Nat.zero_le _, t⟩
    · exact hA x' y' z' (Or.inr (Or.inr (Or.inr (Or.inl ⟨h0, h1, h2, h3, by omega⟩))))
  · obtain ⟨h0, h1, h2, h3, h4⟩ := h
    by_cases q : x - x' = k ∧ z - z' = m
    · have e5 : x' = x - k := by omega
      have e6 : z' = z - m := by omega
      subst h2 e5 e6
      exact fun t => e2 ⟨by omega, Nat.zero_le _, by omega, t⟩
    · exact hA x' y' z' (Or.inr (Or.inr (Or.inr (Or.inr (Or.inl ⟨h0, h1, h2, h3, by omega⟩)))))
  · obtain ⟨h0, h1, h2, h3, h4⟩ := h
    by_cases q : y - y' = k ∧ z - z' = m
    · have e5 : y' = y - k := by omega
      have e6 : z' = z - m := by omega
      subst h1 e5 e6
      exact fun t => e3 ⟨Nat.zero_le _, by omega, by omega, t⟩
    · exact hA x' y' z' (Or.inr (Or.inr (Or.inr (Or.inr (Or.inr ⟨h0, h1, h2, h3, by omega⟩)))))
theorem Mv_low {q x y z x' y' z' : Nat} (hq : q ≠ 3) (h : Mv q x y z x' y' z') : x' ≤ x ∧ y' ≤ y ∧ z' ≤ z ∧ (x' < x ∨ y' < y ∨ z' < z) ∧ (q = 4 ∨ q = 5 → z' = z) := by
  unfold Mv at h
  split at h
  · unfold oneM twoM at h; omega
  · try rw [if_neg hq] at h
    split at h
    · unfold eqM at h; omega
    · split at h
      · obtain ⟨h1, h2, h3, ⟨h4, t, h5, h6, h7⟩ | ⟨h4, t, h5, h6, h7⟩⟩ := h
        · have := Nat.le_mul_of_pos_left y h5; omega
        · have := Nat.le_mul_of_pos_left x h5; omega
      · split at h
        · unfold oneM at h; omega
        · unfold oneM at h; omega
theorem Mv_B {q x y z x' y' z' : Nat} (hB : Bq q x y z) (h : Mv q x y z x' y' z') : Bq q x' y' z' := by
  by_cases hq : q = 3
  · have h1 := hB.is3 hq
    rw [Mv_3 hq] at h
    unfold pushM at h
    left
    omega
  · have h1 := hB.n3 hq
    have h2 := Mv_low hq h
    right
    omega
/-- the tables are right at the positions with R -/
def Tab (q : Nat) (W V : Nat → Nat) (R : Nat → Nat → Nat → Prop) : Prop := ∀ x y z, R x y z → W (ky x y z) = bn (wonB q x y z) ∧ V (ky x y z) = valB q x y z
theorem ky_inj {x y z x' y' z' : Nat} (h1 : x ≤ 45) (h2 : y ≤ 30) (h1' : x' ≤ 45) (h2' : y' ≤ 30) (h : ky x y z = ky x' y' z') : x = x' ∧ y = y' ∧ z = z' := by
  unfold ky at h; omega
theorem Tab.put {q x y z : Nat} {W V : Nat → Nat} {R R' : Nat → Nat → Nat → Prop} (h : Tab q W V R) (hx : x ≤ 45) (hy : y ≤ 30) (hb : ∀ x' y' z', R' x' y' z' → x' ≤ 45 ∧ y' ≤ 30) (hR : ∀ x' y' z', R' x' y' z' → R x' y' z' ∨ (x' = x ∧ y' = y ∧ z' = z)) :
    Tab q (upN W (ky x y z) (bn (wonB q x y z))) (upN V (ky x y z) (valB q x y z)) R' := by
  intro x' y' z' h1
  have h2 := hb x' y' z' h1
  by_cases e : ky x' y' z' = ky x y z
  · obtain ⟨rfl, rfl, rfl⟩ := ky_inj h2.1 h2.2 hx hy e
    exact ⟨upN_s, upN_s⟩
  · rw [upN_n e, upN_n e]
    rcases hR x' y' z' h1 with h3 | ⟨rfl, rfl, rfl⟩
    · exact h x' y' z' h3
    · exact absurd rfl e
theorem Tab.sub {q : Nat} {W V : Nat → Nat} {R R' : Nat → Nat → Nat → Prop} (h : Tab q W V R) (hR : ∀ x y z, R' x y z → R x y z) : Tab q W V R' := fun x y z h1 => h x y z (hR x y z h1)
theorem up_le {W : Nat → Nat} {j v m : Nat} (h : ∀ k, W k ≤ m) (hv : v ≤ m) : ∀ k, upN W j v k ≤ m := by
  intro k
  unfold upN
  split
  · exact hv
  · exact h k
/-- the positions that fill works out -/
def Reg (q a b c x y z : Nat) : Prop := if q = 3 then z ≤ c ∧ y + z ≤ b + c ∧ x + y + z ≤ a + b + c else x ≤ a ∧ y ≤ b ∧ z ≤ c ∧ (q = 4 ∨ q = 5 → z = c)
theorem Reg_own {q a b c : Nat} : Reg q a b c a b c := by
  unfold Reg
  split
  · omega
  · exact ⟨Nat.le_refl _, Nat.le_refl _, Nat.le_refl _, fun _ => rfl⟩
theorem Reg_mv {q a b c x y z : Nat} (h : Mv q a b c x y z) : Reg q a b c x y z := by
  unfold Reg
  split
  · rename_i e
    rw [Mv_3 e] at h
    unfold pushM at h
    omega
  · rename_i e
    have h1 := Mv_low e h
    exact ⟨h1.1, h1.2.1, h1.2.2.1, h1.2.2.2.2⟩
/-- the reference's verdict on a position, out of its list of moves -/
theorem judge_win {q x y z n w w0 : Nat} {X Y U W : Nat → Nat} (hq : q ≤ 7) (h6 : q ≠ 6) (hB : Bq q x y z) (hL : Lst n X Y U (Mv q x y z)) (hT : ∀ x' y' z', Mv q x y z x' y' z' → W (ky x' y' z') = bn (wonB q x' y' z'))
    (h0 : (w0 = 1 ∧ n = 0 ∧ q = 1) ∨ (w0 = 0 ∧ (n ≠ 0 ∨ q ≠ 1))) (hw : w ≤ 1) (h : w = 1 ↔ w0 = 1 ∨ ∃ k, k < n ∧ W (ky (X k) (Y k) (U k)) = 0) : w = bn (wonB q x y z) := by
  have e : wonB q x y z = true ↔ w = 1 := by
    rw [game_win hq h6 hB, h]
    refine or_congr ?_ ?_
    · constructor
      · rintro ⟨rfl, h2⟩
        rcases h0 with h0 | ⟨_, h0 | h0⟩
        · exact h0.1
        · exact absurd ⟨_, _, _, (hL.2 _ _ _).mpr ⟨0, by omega, rfl, rfl, rfl⟩⟩ h2
        · exact absurd rfl h0
      · intro h2
        rcases h0 with ⟨_, h3, h4⟩ | ⟨h3, _⟩
        · refine ⟨h4, fun ⟨x', y', z', h5⟩ => ?_⟩
          obtain ⟨k, h7, _⟩ := (hL.2 _ _ _).mp h5
          omega
        · omega
    · constructor
      · rintro ⟨x', y', z', h2, h3⟩
        obtain ⟨k, h4, rfl, rfl, rfl⟩ := (hL.2 _ _ _).mp h2
        exact ⟨k, h4, by rw [hT _ _ _ h2, h3]; rfl⟩
      · rintro ⟨k, h2, h3⟩
        have h4 := (hL.2 (X k) (Y k) (U k)).mpr ⟨k, h2, rfl, rfl, rfl⟩
        rw [hT _ _ _ h4] at h3
        exact ⟨_, _, _, h4, bn_0 h3⟩
  cases hb : wonB q x y z with
  | true => rw [e.mp hb]; rfl
  | false =>
    have : w ≠ 1 := fun t => by rw [e.mpr t] at hb; cases hb
    show w = 0
    omega
theorem judge_mex {q x y z n v : Nat} {X Y U V K : Nat → Nat} (hq : q = 0 ∨ q = 7) (hB : Bq q x y z) (hL : Lst n X Y U (Mv q x y z)) (hT : ∀ x' y' z', Mv q x y z x' y' z' → V (ky x' y' z') = valB q x' y' z')
    (hK : ∀ j, j < 64 → (K j ≤ 1 ∧ (K j = 1 ↔ ∃ k, k < n ∧ V (ky (X k) (Y k) (U k)) = j))) (hv : v ≤ 16) (h0 : K v = 0) (h1 : ∀ j, j < v → K j ≠ 0) : v = valB q x y z := by
  have e : ∀ j, j < 64 → (K j = 1 ↔ ∃ x' y' z', Mv q x y z x' y' z' ∧ valB q x' y' z' = j) := by
    intro j hj
    rw [(hK j hj).2]
    constructor
    · rintro ⟨k, h2, h3⟩
      have h4 := (hL.2 (X k) (Y k) (U k)).mpr ⟨k, h2, rfl, rfl, rfl⟩
      exact ⟨_, _, _, h4, by rw [← hT _ _ _ h4]; exact h3⟩
    · rintro ⟨x', y', z', h2, h3⟩
      obtain ⟨k, h4, rfl, rfl, rfl⟩ := (hL.2 _ _ _).mp h2
      exact ⟨k, h4, by rw [hT _ _ _ h2]; exact h3⟩
  refine game_mex hq hB (fun h => ?_) (fun u hu => ?_)
  · have := (e v (by omega)).mpr h
    omega
  · refine (e u (by omega)).mp ?_
    have h2 := (hK u (by omega)).1
    have h3 := h1 u hu
    omega
theorem judge_16 {q x y z n : Nat} {X Y U V K : Nat → Nat} (hB : Bq q x y z) (hL : Lst n X Y U (Mv q x y z)) (hT : ∀ x' y' z', Mv q x y z x' y' z' → V (ky x' y' z') = valB q x' y' z')
    (hK : ∀ j, j < 64 → (K j ≤ 1 ∧ (K j = 1 ↔ ∃ k, k < n ∧ V (ky (X k) (Y k) (U k)) = j))) : K 16 = 0 := by
  have h1 := (hK 16 (by decide)).1
  rcases (show K 16 = 0 ∨ K 16 = 1 by omega) with h | h
  · exact h
  · obtain ⟨k, h2, h3⟩ := (hK 16 (by decide)).2.mp h
    have h4 := (hL.2 (X k) (Y k) (U k)).mpr ⟨k, h2, rfl, rfl, rfl⟩
    rw [hT _ _ _ h4] at h3
    have := valB_le (Mv_B hB h4)
    omega
/-- one more move looked at -/
theorem tk_step {m : Nat} {X Y U V K : Nat → Nat} (hv : V (ky (X m) (Y m) (U m)) < 64) (hK : ∀ j, j < 64 → (K j ≤ 1 ∧ (K j = 1 ↔ ∃ k, k < m ∧ V (ky (X k) (Y k) (U k)) = j))) :
    ∀ j, j < 64 → (upN K (V (ky (X m) (Y m) (U m))) 1 j ≤ 1 ∧ (upN K (V (ky (X m) (Y m) (U m))) 1 j = 1 ↔ ∃ k, k < m + 1 ∧ V (ky (X k) (Y k) (U k)) = j)) := by
  intro j hj
  obtain ⟨h1, h2⟩ := hK j hj
  by_cases e : j = V (ky (X m) (Y m) (U m))
  · rw [← e, upN_s]
    exact ⟨Nat.le_refl _, fun _ => ⟨m, by omega, e.symm⟩, fun _ => rfl⟩
  · rw [upN_n e]
    refine ⟨h1, h2.trans ⟨fun ⟨k, h3, h4⟩ => ⟨k, by omega, h4⟩, fun ⟨k, h3, h4⟩ => ?_⟩⟩
    rcases Nat.lt_or_ge k m with q | q
    · exact ⟨k, q, h4⟩
    · have : k = m := by omega
      subst this
      exact absurd h4.symm e
theorem ex_lt {P : Nat → Prop} {m : Nat} : (∃ k, k < m + 1 ∧ P k) ↔ (∃ k, k < m ∧ P k) ∨ P m := by
  constructor
  · rintro ⟨k, h1, h2⟩
    rcases Nat.lt_or_ge k m with q | q
    · exact Or.inl ⟨k, q, h2⟩
    · have : k = m := by omega
      subst this; exact Or.inr h2
  · rintro (⟨k, h1, h2⟩ | h)
    · exact ⟨k, by omega, h2⟩
    · exact ⟨m, by omega, h⟩
end
section
set_option maxRecDepth 100000
/-! PURE LAYER for judge, fill, fillLimited, search -/
theorem ky_lt {x y z : Nat} (h : x ≤ 45 ∧ y ≤ 30 ∧ z ≤ 15) : ky x y z < 22816 := by
  unfold ky
  omega
theorem tk_zero {K : Nat → Nat} {v : Nat} (h : ∀ j, j < v → K j = 0) : ∀ j, j < v + 1 → upN K v 0 j = 0 := by
  intro j hj
  by_cases e : j = v
  · rw [e, upN_s]
  · rw [upN_n e]; exact h j (by omega)
theorem tk_init {v : Nat} {X Y U V K : Nat → Nat} (hv : 64 ≤ v) (h : ∀ j, j < v → K j = 0) : ∀ j, j < 64 → (K j ≤ 1 ∧ (K j = 1 ↔ ∃ k, k < 0 ∧ V (ky (X k) (Y k) (U k)) = j)) := by
  intro j hj
  rw [h j (by omega)]
  exact ⟨by omega, fun e => by omega, fun ⟨k, hk, _⟩ => by omega⟩
theorem wk_no {w0 w m : Nat} {P : Nat → Prop} (h : w = 1 ↔ w0 = 1 ∨ ∃ k, k < m ∧ P k) (hn : ¬ P m) : w = 1 ↔ w0 = 1 ∨ ∃ k, k < m + 1 ∧ P k := by
  rw [ex_lt, h]
  constructor
  · rintro (q | q)
    · exact Or.inl q
    · exact Or.inr (Or.inl q)
  · rintro (q | q | q)
    · exact Or.inl q
    · exact Or.inr q
    · exact absurd q hn
theorem wk_yes {w0 m : Nat} {P : Nat → Prop} (hp : P m) : 1 = 1 ↔ w0 = 1 ∨ ∃ k, k < m + 1 ∧ P k := ⟨fun _ => Or.inr ⟨m, by omega, hp⟩, fun _ => rfl⟩
theorem judge_two {x y z v : Nat} {W : Nat → Nat} (hB : Bq 2 x y z) (hT : ∀ x' y' z', Mv 2 x y z x' y' z' → W (ky x' y' z') = bn (wonB 2 x' y' z')) (hv : v ≤ 1) (h : v ≠ 0 ↔ ∃ x' y' z', Mv 2 x y z x' y' z' ∧ W (ky x' y' z') = 0) : v = bn (wonB 2 x y z) := by
  have e : wonB 2 x y z = true ↔ v ≠ 0 := by
    rw [game_win (by decide) (by decide) hB, h]
    constructor
    · rintro (⟨q, _⟩ | ⟨x', y', z', h1, h2⟩)
      · exact absurd q (by decide)
      · exact ⟨x', y', z', h1, by rw [hT _ _ _ h1, h2]; rfl⟩
    · rintro ⟨x', y', z', h1, h2⟩
      rw [hT _ _ _ h1] at h2
      exact Or.inr ⟨x', y', z', h1, bn_0 h2⟩
  cases hb : wonB 2 x y z with
  | true =>
    have := e.mp hb
    show v = 1
    omega
  | false =>
    show v = 0
    rcases Nat.eq_zero_or_pos v with q | q
    · exact q
    · rw [e.mpr (by omega)] at hb; cases hb
theorem valB_o {q x y z : Nat} (h0 : q ≠ 0) (h7 : q ≠ 7) : valB q x y z = 0 := by
  unfold valB
  rw [if_neg h0, if_neg h7]
/-! fill -/
def Reg3 (a b c z t s x' y' z' : Nat) : Prop := z' ≤ c ∧ y' + z' ≤ b + c ∧ x' + y' + z' ≤ a + b + c ∧ (z' < z ∨ (z' = z ∧ (y' + z' < t ∨ (y' + z' = t ∧ x' + y' + z' < s))))
def RegO (q a b c z y x x' y' z' : Nat) : Prop := x' ≤ a ∧ y' ≤ b ∧ z' ≤ c ∧ (q = 4 ∨ q = 5 → z' = c) ∧ (z' < z ∨ (z' = z ∧ (y' < y ∨ (y' = y ∧ x' < x))))
section FILL
variable {q a b c z t s y x : Nat} {W V : Nat → Nat}
theorem r3_T (h : Tab 3 W V (Reg3 a b c z t s)) (h1 : z ≤ c) (h2 : z ≤ t) (h3 : t ≤ b + c) (h4 : t ≤ s) (h5 : s ≤ a + b + c) : Tab 3 W V (Mv 3 (s - t) (t - z) z) := by
  refine h.sub (fun x' y' z' hm => ?_)
  rw [Mv_3 rfl] at hm
  unfold pushM at hm
  unfold Reg3
  omega
theorem r3_put (h : Tab 3 W V (Reg3 a b c z t s)) (ha : a ≤ 15) (hb : b ≤ 15) (hc : c ≤ 15) (h1 : z ≤ c) (h2 : z ≤ t) (h3 : t ≤ b + c) (h4 : t ≤ s) (h5 : s ≤ a + b + c) :
    Tab 3 (upN W (ky (s - t) (t - z) z) (bn (wonB 3 (s - t) (t - z) z))) (upN V (ky (s - t) (t - z) z) (valB 3 (s - t) (t - z) z)) (Reg3 a b c z t (s + 1)) := by
  refine Tab.put h (by omega) (by omega) (fun x' y' z' hm => ?_) (fun x' y' z' hm => ?_)
  · unfold Reg3 at hm; omega
  · unfold Reg3 at hm ⊢; omega
theorem r3_0 : Tab 3 W V (Reg3 a b c 0 0 0) := fun x' y' z' h => by unfold Reg3 at h; omega
theorem r3_in1 (h : Tab 3 W V (Reg3 a b c z 0 0)) : Tab 3 W V (Reg3 a b c z z 0) := h.sub (fun x' y' z' hm => by unfold Reg3 at hm ⊢; omega)
theorem r3_in2 (h : Tab 3 W V (Reg3 a b c z t 0)) : Tab 3 W V (Reg3 a b c z t t) := h.sub (fun x' y' z' hm => by unfold Reg3 at hm ⊢; omega)
theorem r3_out2 (h : Tab 3 W V (Reg3 a b c z t s)) (h5 : a + b + c < s) : Tab 3 W V (Reg3 a b c z (t + 1) 0) := h.sub (fun x' y' z' hm => by unfold Reg3 at hm ⊢; omega)
theorem r3_out1 (h : Tab 3 W V (Reg3 a b c z t 0)) (h5 : b + c < t) : Tab 3 W V (Reg3 a b c (z + 1) 0 0) := h.sub (fun x' y' z' hm => by unfold Reg3 at hm ⊢; omega)
theorem r3_fin (h : Tab 3 W V (Reg3 a b c z 0 0)) (h5 : c < z) : Tab 3 W V (Reg 3 a b c) := h.sub (fun x' y' z' hm => by
  unfold Reg at hm
  rw [if_pos rfl] at hm
  unfold Reg3
  omega)
theorem ro_T (h3 : q ≠ 3) (h : Tab q W V (RegO q a b c z y x)) (h1 : z ≤ c) (h2 : y ≤ b) (h4 : x ≤ a) (h5 : q = 4 ∨ q = 5 → c ≤ z) : Tab q W V (Mv q x y z) := by
  refine h.sub (fun x' y' z' hm => ?_)
  have := Mv_low h3 hm
  unfold RegO
  omega
theorem ro_put (h3 : q ≠ 3) (h : Tab q W V (RegO q a b c z y x)) (ha : a ≤ 15) (hb : b ≤ 15) (hc : c ≤ 15) (h2 : y ≤ b) (h4 : x ≤ a) :
    Tab q (upN W (ky x y z) (bn (wonB q x y z))) (upN V (ky x y z) (valB q x y z)) (RegO q a b c z y (x + 1)) := by
  refine Tab.put h (by omega) (by omega) (fun x' y' z' hm => ?_) (fun x' y' z' hm => ?_)
  · unfold RegO at hm; omega
  · unfold RegO at hm ⊢; omega
theorem ro_0 (h : (z = c ∧ (q = 4 ∨ q = 5)) ∨ (z = 0 ∧ q ≠ 4 ∧ q ≠ 5)) : Tab q W V (RegO q a b c z 0 0) := fun x' y' z' hm => by unfold RegO at hm; omega
theorem ro_out2 (h : Tab q W V (RegO q a b c z y x)) (h5 : a < x) : Tab q W V (RegO q a b c z (y + 1) 0) := h.sub (fun x' y' z' hm => by unfold RegO at hm ⊢; omega)
theorem ro_out1 (h : Tab q W V (RegO q a b c z y 0)) (h5 : b < y) : Tab q W V (RegO q a b c (z + 1) 0 0) := h.sub (fun x' y' z' hm => by unfold RegO at hm ⊢; omega)
theorem ro_fin (h3 : q ≠ 3) (h : Tab q W V (RegO q a b c z 0 0)) (h5 : c < z) : Tab q W V (Reg q a b c) := h.sub (fun x' y' z' hm => by
  unfold Reg at hm
  rw [if_neg h3] at hm
  unfold RegO
  omega)
end FILL
/-! fillLimited -/
theorem am_le (l : Nat) : am l ≤ 60 := by unfold am; split <;> omega
def LmT (n l : Nat) (M : Nat → Nat) : Prop := ∀ n' l', l' ≤ 60 → (n' < n ∨ (n' = n ∧ l' < l)) → M (61 * n' + l') = bn (wwB n' l')
theorem LmT.put {n l w : Nat} {M : Nat → Nat} (h : LmT n l M) (hl : l ≤ 60) (hw : w = bn (wwB n l)) : LmT n (l + 1) (upN M (61 * n + l) w) := by
  intro n' l' h1 h2
  by_cases e : 61 * n' + l' = 61 * n + l
  · have e1 : n' = n := by omega
    have e2 : l' = l := by omega
    rw [e, upN_s, e1, e2]; exact hw
  · rw [upN_n e]; exact h n' l' h1 (by omega)
theorem LmT.row {n l : Nat} {M : Nat → Nat} (h : LmT n l M) (hl : 60 < l) : LmT (n + 1) 0 M := fun n' l' h1 h2 => h n' l' h1 (by omega)
theorem LmT.zero {M : Nat → Nat} : LmT 0 0 M := fun n' l' h1 h2 => by omega
def FW (n l k w : Nat) : Prop := w ≤ 1 ∧ (w = 1 ↔ ∃ j, 1 ≤ j ∧ j < k ∧ j ≤ n ∧ j ≤ l ∧ wwB (n - j) (2 * j) = false)
theorem FW.zero (n l : Nat) : FW n l 1 0 := ⟨by decide, fun h => by omega, fun ⟨j, h1, h2, _⟩ => by omega⟩
theorem FW.keep {n l k w : Nat} (h : FW n l k w) (hw : w ≠ 0) : FW n l (k + 1) 1 := by
  have h0 := h.1
  obtain ⟨j, h1, h2, h3⟩ := h.2.mp (by omega)
  exact ⟨Nat.le_refl _, fun _ => ⟨j, h1, by omega, h3⟩, fun _ => rfl⟩
theorem FW.hit {n l k : Nat} (hk : 1 ≤ k) (h1 : k ≤ n) (h2 : k ≤ l) (hb : wwB (n - k) (2 * k) = false) : FW n l (k + 1) 1 := ⟨Nat.le_refl _, fun _ => ⟨k, hk, by omega, h1, h2, hb⟩, fun _ => rfl⟩
theorem FW.miss {n l k w : Nat} (h : FW n l k w) (hw : w = 0) (hb : wwB (n - k) (2 * k) = true) : FW n l (k + 1) 0 := by
  refine ⟨by decide, fun e => by omega, fun ⟨j, h1, h2, h3, h4, h5⟩ => ?_⟩
  rcases Nat.lt_or_ge j k with q | q
  · have := h.2.mpr ⟨j, h1, q, h3, h4, h5⟩; omega
  · have e : j = k := by omega
    rw [e, hb] at h5; cases h5
theorem FW.fin {n l k w : Nat} (h : FW n l k w) (hn : n ≤ 60) (hk : n < k ∨ l < k) : w = bn (wwB n l) := by
  have e : wwB n l = true ↔ w = 1 := by
    rw [fib_win hn, h.2]
    exact ⟨fun ⟨j, h1, h2, h3, h4⟩ => ⟨j, h1, by omega, h2, h3, h4⟩, fun ⟨j, h1, h2, h3, h4, h5⟩ => ⟨j, h1, h3, h4, h5⟩⟩
  cases hb : wwB n l with
  | true => rw [e.mp hb]; rfl
  | false =>
    have h1 : w ≠ 1 := fun t => by rw [e.mpr t] at hb; cases hb
    have := h.1
    show w = 0
    omega
/-! search -/
theorem Mv_32 {q a b c x y z : Nat} (ha : a ≤ 15) (hb : b ≤ 15) (hc : c ≤ 15) (h : Mv q a b c x y z) : x < 32 ∧ y < 32 ∧ z ≤ 15 := by
  by_cases hq : q = 3
  · rw [Mv_3 hq] at h
    unfold pushM at h
    omega
  · have := Mv_low hq h
    omega
/-- the codes of the lost ones among the first m -/
def Nts (m d : Nat) (N X Y U W : Nat → Nat) : Prop := Srt d N ∧ d ≤ m ∧ ∀ v, In d N v ↔ ∃ k, k < m ∧ W (ky (X k) (Y k) (U k)) = 0 ∧ v = X k + 32 * Y k + 1024 * U k
section NTS
variable {q a b c n m d t : Nat} {N N' X Y U W : Nat → Nat}
theorem Nts.zero : Nts 0 0 N X Y U W := ⟨Srt.zero N, Nat.le_refl _, fun v => ⟨fun h => absurd h In.zero, fun ⟨k, h, _⟩ => by omega⟩⟩
theorem Nts.skip (h : Nts m d N X Y U W) (hw : W (ky (X m) (Y m) (U m)) ≠ 0) : Nts (m + 1) d N X Y U W := by
  refine ⟨h.1, by have := h.2.1; omega, fun v => ?_⟩
  rw [h.2.2 v]
  constructor
  · rintro ⟨k, h1, h2⟩; exact ⟨k, by omega, h2⟩
  · rintro ⟨k, h1, h2, h3⟩
    rcases Nat.lt_or_ge k m with q | q
    · exact ⟨k, q, h2, h3⟩
    · have e : k = m := by omega
      rw [e] at h2; exact absurd h2 hw
theorem Nts.put (h : Nts m d N X Y U W) (hw : W (ky (X m) (Y m) (U m)) = 0) (hs : Srt (d + 1) N') (hi : ∀ v, In (d + 1) N' v ↔ In d N v ∨ v = X m + 32 * Y m + 1024 * U m) : Nts (m + 1) (d + 1) N' X Y U W := by
  refine ⟨hs, by have := h.2.1; omega, fun v => ?_⟩
  rw [hi v, h.2.2 v]
  constructor
  · rintro (⟨k, h1, h2⟩ | h1)
    · exact ⟨k, by omega, h2⟩
    · exact ⟨m, by omega, hw, h1⟩
  · rintro ⟨k, h1, h2, h3⟩
    rcases Nat.lt_or_ge k m with q | q
    · exact Or.inl ⟨k, q, h2, h3⟩
    · have e : k = m := by omega
      rw [e] at h3; exact Or.inr h3
theorem Lst.bd (ha : a ≤ 15) (hb : b ≤ 15) (hc : c ≤ 15) (hL : Lst n X Y U (Mv q a b c)) (hm : m < n) : X m < 32 ∧ Y m < 32 ∧ U m ≤ 15 := Mv_32 ha hb hc ((hL.2 _ _ _).mpr ⟨m, hm, rfl, rfl, rfl⟩)
theorem Nts.new (ha : a ≤ 15) (hb : b ≤ 15) (hc : c ≤ 15) (hL : Lst n X Y U (Mv q a b c)) (hm : m < n) (h : Nts m d N X Y U W) : ¬ In d N (X m + 32 * Y m + 1024 * U m) := by
  intro hi
  obtain ⟨k, h1, _, h3⟩ := (h.2.2 _).mp hi
  have b1 := hL.bd ha hb hc (show k < n by omega)
  have b2 := hL.bd ha hb hc hm
  exact hL.1 k m h1 hm (by omega)
theorem Nts.fin (h6 : q ≠ 6) (ha : a ≤ 15) (hb : b ≤ 15) (hc : c ≤ 15) (hL : Lst n X Y U (Mv q a b c)) (h : Nts n d N X Y U W) (hT : ∀ x y z, Mv q a b c x y z → W (ky x y z) = bn (wonB q x y z)) : ∀ v, In d N v ↔ PM 0 q a b c v := by
  intro v
  rw [h.2.2 v]
  unfold PM
  rw [if_neg h6]
  constructor
  · rintro ⟨k, h1, h2, h3⟩
    have hm := (hL.2 (X k) (Y k) (U k)).mpr ⟨k, h1, rfl, rfl, rfl⟩
    have b1 := Mv_32 ha hb hc hm
    have e1 : v % 32 = X k := by omega
    have e2 : v / 32 % 32 = Y k := by omega
    have e3 : v / 1024 = U k := by omega
    rw [e1, e2, e3]
    rw [hT _ _ _ hm] at h2
    exact ⟨hm, Or.inr (bn_0 h2)⟩
  · rintro ⟨h1, h2⟩
    obtain ⟨k, h3, h4, h5, h7⟩ := (hL.2 _ _ _).mp h1
    refine ⟨k, h3, ?_, by rw [h4, h5, h7]; omega⟩
    rw [h4, h5, h7, hT _ _ _ h1]
    rcases h2 with h2 | h2
    · omega
    · rw [h2]; rfl
/-- t is the number of all moves -/
def Cnt (q a b c t : Nat) : Prop := (∀ (n : Nat) (f : Nat → Nat), Srt n f → (∀ v, In n f v ↔ PM 1 q a b c v) → n = t) ∧ (q = 1 → (t = 0 ↔ ¬ ∃ x y z, Mv q a b c x y z))
theorem Cnt.of (h6 : q ≠ 6) (ha : a ≤ 15) (hb : b ≤ 15) (hc : c ≤ 15) (hL : Lst t X Y U (Mv q a b c)) : Cnt q a b c t := by
  refine ⟨fun n f hs hi => ?_, fun _ => ⟨?_, ?_⟩⟩
  · refine inj_eq (h := fun k => X k + 32 * Y k + 1024 * U k) hs.inj ?_ (fun v => ?_)
    · intro i j h1 h2 e
      have e' : X i + 32 * Y i + 1024 * U i = X j + 32 * Y j + 1024 * U j := e
      have b1 := hL.bd ha hb hc h1
      have b2 := hL.bd ha hb hc h2
      rcases Nat.lt_trichotomy i j with q1 | q1 | q1
      · exact absurd (show X i = X j ∧ Y i = Y j ∧ U i = U j by omega) (hL.1 i j q1 h2)
      · exact q1
      · exact absurd (show X j = X i ∧ Y j = Y i ∧ U j = U i by omega) (hL.1 j i q1 h1)
    · rw [hi v]
      unfold PM
      rw [if_neg h6]
      constructor
      · rintro ⟨h1, _⟩
        obtain ⟨k, h3, h4, h5, h7⟩ := (hL.2 _ _ _).mp h1
        refine ⟨k, h3, ?_⟩
        show X k + 32 * Y k + 1024 * U k = v
        rw [h4, h5, h7]; omega
      · rintro ⟨k, h1, h2⟩
        have h3 : X k + 32 * Y k + 1024 * U k = v := h2
        have hm := (hL.2 (X k) (Y k) (U k)).mpr ⟨k, h1, rfl, rfl, rfl⟩
        have b1 := Mv_32 ha hb hc hm
        have e1 : v % 32 = X k := by omega
        have e2 : v / 32 % 32 = Y k := by omega
        have e3 : v / 1024 = U k := by omega
        rw [e1, e2, e3]
        exact ⟨hm, Or.inl rfl⟩
  · rintro h0 ⟨x, y, z, h⟩
    obtain ⟨k, hk, _⟩ := (hL.2 _ _ _).mp h
    omega
  · intro h
    rcases Nat.eq_zero_or_pos t with e | e
    · exact e
    · exact absurd ⟨_, _, _, (hL.2 _ _ _).mpr ⟨0, e, rfl, rfl, rfl⟩⟩ h
theorem Cnt.six (ht : (sgl a b < c ∧ t = sgl a b) ∨ (c ≤ sgl a b ∧ t = c)) : Cnt 6 a b c t := by
  refine ⟨fun n f hs hi => ?_, fun h => by omega⟩
  refine inj_eq (h := fun k => k + 1) hs.inj (fun i j _ _ e => Nat.succ.inj e) (fun v => ?_)
  rw [hi v]
  unfold PM
  rw [if_pos rfl]
  constructor
  · rintro ⟨h1, h2, h3, _⟩
    refine ⟨v - 1, by omega, ?_⟩
    show v - 1 + 1 = v
    omega
  · rintro ⟨k, h1, h2⟩
    have h3 : k + 1 = v := h2
    exact ⟨by omega, by omega, by omega, Or.inl rfl⟩
theorem Bq_own (ha : a ≤ 15) (hb : b ≤ 15) (hc : c ≤ 15) : Bq q a b c := by
  unfold Bq; omega
theorem found_win (hq : q ≤ 7) (ha : a ≤ 15) (hb : b ≤ 15) (hc : c ≤ 15) (hm : ∀ v, In d N v ↔ PM 0 q a b c v) (hC : Cnt q a b c t) : wonF q a b c = true ↔ (0 < d ∨ (q = 1 ∧ t = 0)) := by
  have hd : 0 < d ↔ ∃ v, PM 0 q a b c v := by
    constructor
    · intro h
      exact ⟨N 0, (hm _).mp ⟨0, h, rfl⟩⟩
    · rintro ⟨v, h⟩
      obtain ⟨k, hk, _⟩ := (hm v).mpr h
      omega
  by_cases h6 : q = 6
  · subst h6
    unfold wonF
    rw [if_pos rfl, fib_win (sgl_le a b), hd]
    constructor
    · rintro ⟨k, h1, h2, h3, h4⟩
      refine Or.inl ⟨k, ?_⟩
      unfold PM
      rw [if_pos rfl]
      exact ⟨h1, h2, h3, Or.inr h4⟩
    · rintro (⟨v, h⟩ | ⟨h, _⟩)
      · unfold PM at h
        rw [if_pos rfl] at h
        refine ⟨v, h.1, h.2.1, h.2.2.1, ?_⟩
        rcases h.2.2.2 with e | e
        · omega
        · exact e
      · omega
  · unfold wonF
    rw [if_neg h6, game_win hq h6 (Bq_own ha hb hc), hd]
    constructor
    · rintro (⟨h1, h2⟩ | ⟨x, y, z, h1, h2⟩)
      · exact Or.inr ⟨h1, (hC.2 h1).mpr h2⟩
      · refine Or.inl ⟨x + 32 * y + 1024 * z, ?_⟩
        have b1 := Mv_32 ha hb hc h1
        have e1 : (x + 32 * y + 1024 * z) % 32 = x := by omega
        have e2 : (x + 32 * y + 1024 * z) / 32 % 32 = y := by omega
        have e3 : (x + 32 * y + 1024 * z) / 1024 = z := by omega
        unfold PM
        rw [if_neg h6, e1, e2, e3]
        exact ⟨h1, Or.inr h2⟩
    · rintro (⟨v, h⟩ | ⟨h1, h2⟩)
      · unfold PM at h
        rw [if_neg h6] at h
        refine Or.inr ⟨_, _, _, h.1, ?_⟩
        rcases h.2 with e | e
        · omega
        · exact e
      · exact Or.inl ⟨h1, (hC.2 h1).mp h2⟩
end NTS
/-- game 6: the winning numbers below k -/
def Nt6 (a b k d : Nat) (N : Nat → Nat) : Prop := Srt d N ∧ d + 1 ≤ k ∧ ∀ v, In d N v ↔ 1 ≤ v ∧ v < k ∧ wwB (sgl a b - v) (2 * v) = false
theorem Nt6.zero {a b : Nat} {N : Nat → Nat} : Nt6 a b 1 0 N := ⟨Srt.zero N, Nat.le_refl _, fun v => ⟨fun h => absurd h In.zero, fun h => by omega⟩⟩
theorem Nt6.skip {a b k d : Nat} {N : Nat → Nat} (h : Nt6 a b k d N) (hw : wwB (sgl a b - k) (2 * k) = true) : Nt6 a b (k + 1) d N := by
  refine ⟨h.1, by have := h.2.1; omega, fun v => ?_⟩
  rw [h.2.2 v]
  constructor
  · rintro ⟨h1, h2, h3⟩; exact ⟨h1, by omega, h3⟩
  · rintro ⟨h1, h2, h3⟩
    refine ⟨h1, ?_, h3⟩
    rcases Nat.lt_or_ge v k with q | q
    · exact q
    · have e : v = k := by omega
      rw [e, hw] at h3; cases h3
theorem Nt6.put {a b k d : Nat} {N N' : Nat → Nat} (h : Nt6 a b k d N) (hk : 1 ≤ k) (hw : wwB (sgl a b - k) (2 * k) = false) (hs : Srt (d + 1) N') (hi : ∀ v, In (d + 1) N' v ↔ In d N v ∨ v = k) : Nt6 a b (k + 1) (d + 1) N' := by
  refine ⟨hs, by have := h.2.1; omega, fun v => ?_⟩
  rw [hi v, h.2.2 v]
  constructor
  · rintro (⟨h1, h2, h3⟩ | h1)
    · exact ⟨h1, by omega, h3⟩
    · subst h1; exact ⟨hk, by omega, hw⟩
  · rintro ⟨h1, h2, h3⟩
    rcases Nat.lt_or_ge v k with q | q
    · exact Or.inl ⟨h1, q, h3⟩
    · exact Or.inr (by omega)
theorem Nt6.new {a b k d : Nat} {N : Nat → Nat} (h : Nt6 a b k d N) : ¬ In d N k := by
  intro hi
  have := (h.2.2 k).mp hi
  omega
theorem Nt6.fin {a b c k d : Nat} {N : Nat → Nat} (h : Nt6 a b k d N) (h1 : k ≤ sgl a b + 1) (h2 : k ≤ c + 1) (h3 : sgl a b < k ∨ c < k) : ∀ v, In d N v ↔ PM 0 6 a b c v := by
  intro v
  rw [h.2.2 v]
  unfold PM
  rw [if_pos rfl]
  constructor
  · rintro ⟨p1, p2, p3⟩; exact ⟨p1, by omega, by omega, Or.inr p3⟩
  · rintro ⟨p1, p2, p3, p4⟩
    refine ⟨p1, by omega, ?_⟩
    rcases p4 with p4 | p4
    · omega
    · exact p4
/-- the reference's state with heaps a, b, c -/
def StpM (a b c : Nat) (u : S1) : Prop := ∃ (n : Nat) (X Y U W V K M : Nat → Nat) (d : Nat) (N : Nat → Nat), u = (a, b, c, n, X, Y, U, W, V, K, M, d, N) ∧ ∀ k, W k ≤ 1
end
section
set_option maxHeartbeats 4000000 in
set_option maxRecDepth 100000 in
theorem m1_isLost (g : GG) (a b c n : Nat) (X Y U W V K M : Nat → Nat) (d : Nat) (N : Nat → Nat) (x y z dx dy dz : Nat) (A B C : Int32) (hx : x ≤ 15) (hy : y ≤ 15) (hz : z ≤ 15) (hA : Rel A x dx) (hB : Rel B y dy) (hC : Rel C z dz) (hW : ∀ k, W k ≤ 1) : C1I g yX1_isLost cX1_isLost 4 .boolean 1 [.int A, .int B, .int C] (a, b, c, n, X, Y, U, W, V, K, M, d, N) (fun r u => u = (a, b, c, n, X, Y, U, W, V, K, M, d, N) ∧ ∃ v : Nat, v ≤ 1 ∧ r = nI v ∧ (v ≠ 0 ↔ dx ≤ x ∧ dy ≤ y ∧ dz ≤ z ∧ W (ky (x - dx) (y - dy) (z - dz)) = 0)) := by
  refine CtI.ofz RX1 [some (.ref (go g)), some (.int A), some (.int B), some (.int C)] (by decide) rfl (by intro w hw; simp at hw; rcases hw with rfl | rfl | rfl | rfl <;> rfl) (Nat.le_of_ble_eq_true rfl) rfl ?_
  intro F Q E hR
  refine z_ild1 E dX1_isLost_0 ?_
  refine zr_if_lt E 31 dX1_isLost_1 (by decide) (fun c1 => ?_) (fun c1 => ?_)
  · refine z_ic0 E dX1_isLost_31 ?_
    exact hR dX1_isLost_32 (by decide) ⟨rfl, 0, by decide, rfl, fun h => absurd rfl h, fun h => absurd (hA.neg (by omega) c1) (by omega)⟩
  · refine z_ild2 E dX1_isLost_4 ?_
    refine zr_if_lt E 31 dX1_isLost_5 (by decide) (fun c5 => ?_) (fun c5 => ?_)
    · refine z_ic0 E dX1_isLost_31 ?_
      exact hR dX1_isLost_32 (by decide) ⟨rfl, 0, by decide, rfl, fun h => absurd rfl h, fun h => absurd (hB.neg (by omega) c5) (by omega)⟩
    · refine z_ild3 E dX1_isLost_8 ?_
      refine zr_if_lt E 31 dX1_isLost_9 (by decide) (fun c9 => ?_) (fun c9 => ?_)
      · refine z_ic0 E dX1_isLost_31 ?_
        exact hR dX1_isLost_32 (by decide) ⟨rfl, 0, by decide, rfl, fun h => absurd rfl h, fun h => absurd (hC.neg (by omega) c9) (by omega)⟩
      · have pA := hA.pos c1
        have pB := hB.pos c5
        have pC := hC.pos c9
        rw [pA.2, pB.2, pC.2]
        refine z_ald0 E dX1_isLost_12 ?_
        refine z1_get_win E dX1_isLost_13 ?_
        refine z_ald0 E dX1_isLost_16 ?_
        refine z_ild1 E dX1_isLost_17 ?_
        refine z_ild2 E dX1_isLost_18 ?_
        refine z_ild3 E dX1_isLost_19 ?_
        refine z1_c_key E dX1_isLost_20 (by decide) (Nat.le_of_ble_eq_true rfl) (m1_key g _ (x - dx) (y - dy) (z - dz)) (fun r20 u20 h20 => ?_)
        obtain ⟨rfl, rfl⟩ := h20
        refine z1_ld_win E (by omega) dX1_isLost_23 ?_
        refine z_if_ne E (Nat.lt_of_le_of_lt (hW _) (by decide)) 31 dX1_isLost_24 (by decide) (fun c24 => ?_) (fun c24 => ?_)
        · refine z_ic0 E dX1_isLost_31 ?_
          exact hR dX1_isLost_32 (by decide) ⟨rfl, 0, by decide, rfl, fun h => absurd rfl h, fun h => absurd h.2.2.2 c24⟩
        · refine z_ic1 E dX1_isLost_27 ?_
          refine z_goto E 32 dX1_isLost_28 (by decide) ?_
          exact hR dX1_isLost_32 (by decide) ⟨rfl, 1, by decide, rfl, fun _ => ⟨pA.1, pB.1, pC.1, c24⟩, fun _ => by decide⟩
set_option maxHeartbeats 4000000 in
set_option maxRecDepth 100000 in
theorem m1_findsLost (g : GG) (a b c n : Nat) (X Y U W V K M : Nat → Nat) (d : Nat) (N : Nat → Nat) (x y z : Nat) (hx : x ≤ 15) (hy : y ≤ 15) (hz : z ≤ 15) (hW : ∀ k, W k ≤ 1) : C1I g yX1_findsLost cX1_findsLost 6 .boolean 2 [.int (nI x), .int (nI y), .int (nI z)] (a, b, c, n, X, Y, U, W, V, K, M, d, N) (fun r u => u = (a, b, c, n, X, Y, U, W, V, K, M, d, N) ∧ ∃ v : Nat, v ≤ 1 ∧ r = nI v ∧ (v ≠ 0 ↔ ∃ x' y' z', Mv 2 x y z x' y' z' ∧ W (ky x' y' z') = 0)) := by
  refine CtI.ofz RX1 [some (.ref (go g)), some (.int (nI x)), some (.int (nI y)), some (.int (nI z)), none, none] (by decide) rfl (by intro w hw; simp at hw; rcases hw with rfl | rfl | rfl | rfl <;> rfl) (Nat.le_of_ble_eq_true rfl) rfl ?_
  intro F Q E hR
  refine z_ic1 E dX1_findsLost_0 ?_
  refine z_ist4 E dX1_findsLost_1 ?_
  have L3 : ∀ (fuel : Nat) (k : Nat) (o5 : Option Value), (1 ≤ k) → (k ≤ 16) → (∀ x' y' z', SP 2 k k k k 1 1 1 x y z x' y' z' → W (ky x' y' z') ≠ 0) → (16 < k + fuel) → Z1 g F Q 6 (a, b, c, n, X, Y, U, W, V, K, M, d, N) 3 [some (.ref (go g)), some (.int (nI x)), some (.int (nI y)), some (.int (nI z)), some (.int (nI k)), o5] [] := by
    intro fuel
    induction fuel with
    | zero =>
      intro k o5 h0 h1 hA h3
      exfalso; omega
    | succ fuel ih3 =>
      intro k o5 h0 h1 hA h3
      refine z_ild4 E dX1_findsLost_3 ?_
      refine z_bipush E 15 (by decide) dX1_findsLost_5 ?_
      refine z_icmp_gt E (by omega) (by omega) 123 dX1_findsLost_7 (by decide) (fun c7 => ?_) (fun c7 => ?_)
      · refine z_ic0 E dX1_findsLost_123 ?_
        exact hR dX1_findsLost_124 (by decide) ⟨rfl, 0, by decide, rfl, fun h => absurd rfl h, fun ⟨x', y', z', h1, h2⟩ => absurd h2 (hA x' y' z' ((SP_end hx hy hz (by omega) (Or.inr ⟨by decide, rfl⟩) (by omega)).mpr h1))⟩
      · refine z_ald0 E dX1_findsLost_10 ?_
        refine z_ild1 E dX1_findsLost_11 ?_
        refine z_ild4 E dX1_findsLost_12 ?_
        refine z_isubR E dX1_findsLost_14 ?_
        refine z_ild2 E dX1_findsLost_15 ?_
        refine z_ild3 E dX1_findsLost_16 ?_
        refine z1_c_isLost E dX1_findsLost_17 (by decide) (Nat.le_of_ble_eq_true rfl) (m1_isLost g a b c n X Y U W V K M d N x y z k 0 0 _ _ _ hx hy hz (rel_sub (by omega)) (rel_0 _) (rel_0 _) hW) (fun r17 u17 h17 => ?_)
        obtain ⟨rfl, v17, hv17, rfl, hi17⟩ := h17
        refine z_if_ne E (show v17 < 2147483648 by omega) 49 dX1_findsLost_20 (by decide) (fun c20 => ?_) (fun c20 => ?_)
        · have e20 : k ≤ x ∧ 0 ≤ y ∧ 0 ≤ z ∧ W (ky (x - k) y z) = 0 := hi17.mp c20
          refine z_ic1 E dX1_findsLost_49 ?_
          exact hR dX1_findsLost_50 (by decide) ⟨rfl, 1, by decide, rfl, fun _ => ⟨(x - k), y, z, (Mv_2 rfl).mpr (Or.inl (Or.inl ⟨by omega, by omega, rfl, rfl⟩)), e20.2.2.2⟩, fun _ => by decide⟩
        · have e20 : ¬ (k ≤ x ∧ 0 ≤ y ∧ 0 ≤ z ∧ W (ky (x - k) y z) = 0) := fun h => hi17.mpr h c20
          refine z_ald0 E dX1_findsLost_23 ?_
          refine z_ild1 E dX1_findsLost_24 ?_
          refine z_ild2 E dX1_findsLost_25 ?_
          refine z_ild4 E dX1_findsLost_26 ?_
          refine z_isubR E dX1_findsLost_28 ?_
          refine z_ild3 E dX1_findsLost_29 ?_
          refine z1_c_isLost E dX1_findsLost_30 (by decide) (Nat.le_of_ble_eq_true rfl) (m1_isLost g a b c n X Y U W V K M d N x y z 0 k 0 _ _ _ hx hy hz (rel_0 _) (rel_sub (by omega)) (rel_0 _) hW) (fun r30 u30 h30 => ?_)
          obtain ⟨rfl, v30, hv30, rfl, hi30⟩ := h30
          refine z_if_ne E (show v30 < 2147483648 by omega) 49 dX1_findsLost_33 (by decide) (fun c33 => ?_) (fun c33 => ?_)
          · have e33 : 0 ≤ x ∧ k ≤ y ∧ 0 ≤ z ∧ W (ky x (y - k) z) = 0 := hi30.mp c33
            refine z_ic1 E dX1_findsLost_49 ?_
            exact hR dX1_findsLost_50 (by decide) ⟨rfl, 1, by decide, rfl, fun _ => ⟨x, (y - k), z, (Mv_2 rfl).mpr (Or.inl (Or.inr (Or.inl ⟨rfl, by omega, by omega, rfl⟩))), e33.2.2.2⟩, fun _ => by decide⟩
          · have e33 : ¬ (0 ≤ x ∧ k ≤ y ∧ 0 ≤ z ∧ W (ky x (y - k) z) = 0) := fun h => hi30.mpr h c33
            refine z_ald0 E dX1_findsLost_36 ?_
            refine z_ild1 E dX1_findsLost_37 ?_
            refine z_ild2 E dX1_findsLost_38 ?_
            refine z_ild3 E dX1_findsLost_39 ?_
            refine z_ild4 E dX1_findsLost_40 ?_
            refine z_isubR E dX1_findsLost_42 ?_
            refine z1_c_isLost E dX1_findsLost_43 (by decide) (Nat.le_of_ble_eq_true rfl) (m1_isLost g a b c n X Y U W V K M d N x y z 0 0 k _ _ _ hx hy hz (rel_0 _) (rel_0 _) (rel_sub (by omega)) hW) (fun r43 u43 h43 => ?_)
            obtain ⟨rfl, v43, hv43, rfl, hi43⟩ := h43
            refine z_if_eq E (show v43 < 2147483648 by omega) 51 dX1_findsLost_46 (by decide) (fun c46 => ?_) (fun c46 => ?_)
            · have e46 : ¬ (0 ≤ x ∧ 0 ≤ y ∧ k ≤ z ∧ W (ky x y (z - k)) = 0) := fun h => hi43.mpr h c46
              refine z_ic1 E dX1_findsLost_51 ?_
              refine z_ist5 E dX1_findsLost_52 ?_
              have L54 : ∀ (fuel : Nat) (m : Nat), (1 ≤ m) → (m ≤ 16) → (∀ x' y' z', SP 2 (k + 1) (k + 1) (k + 1) k m m m x y z x' y' z' → W (ky x' y' z') ≠ 0) → (16 < m + fuel) → Z1 g F Q 6 (a, b, c, n, X, Y, U, W, V, K, M, d, N) 54 [some (.ref (go g)), some (.int (nI x)), some (.int (nI y)), some (.int (nI z)), some (.int (nI k)), some (.int (nI m))] [] := by
                intro fuel
                induction fuel with
                | zero =>
                  intro m g0 g1 hM g3
                  exfalso; omega
                | succ fuel ih54 =>
                  intro m g0 g1 hM g3
                  refine z_ild5 E dX1_findsLost_54 ?_
                  refine z_bipush E 15 (by decide) dX1_findsLost_56 ?_
                  refine z_icmp_gt E (by omega) (by omega) 117 dX1_findsLost_58 (by decide) (fun c58 => ?_) (fun c58 => ?_)
                  · refine z_inc4 E dX1_findsLost_117 ?_
                    refine z_goto E 3 dX1_findsLost_120 (by decide) ?_
                    exact ih3 (k + 1) _ (by omega) (by omega) (fun x' y' z' h => hM x' y' z' ((SP_row hy hz h0 m (fun _ => by omega) g0).mpr h)) (by omega)
                  · refine z_ald0 E dX1_findsLost_61 ?_
                    refine z_ild1 E dX1_findsLost_62 ?_
                    refine z_ild4 E dX1_findsLost_63 ?_
                    refine z_isubR E dX1_findsLost_65 ?_
                    refine z_ild2 E dX1_findsLost_66 ?_
                    refine z_ild5 E dX1_findsLost_67 ?_
                    refine z_isubR E dX1_findsLost_69 ?_
                    refine z_ild3 E dX1_findsLost_70 ?_
                    refine z1_c_isLost E dX1_findsLost_71 (by decide) (Nat.le_of_ble_eq_true rfl) (m1_isLost g a b c n X Y U W V K M d N x y z k m 0 _ _ _ hx hy hz (rel_sub (by omega)) (rel_sub (by omega)) (rel_0 _) hW) (fun r71 u71 h71 => ?_)
                    obtain ⟨rfl, v71, hv71, rfl, hi71⟩ := h71
                    refine z_if_ne E (show v71 < 2147483648 by omega) 109 dX1_findsLost_74 (by decide) (fun c74 => ?_) (fun c74 => ?_)
                    · have e74 : k ≤ x ∧ m ≤ y ∧ 0 ≤ z ∧ W (ky (x - k) (y - m) z) = 0 := hi71.mp c74
                      refine z_ic1 E dX1_findsLost_109 ?_
                      exact hR dX1_findsLost_110 (by decide) ⟨rfl, 1, by decide, rfl, fun _ => ⟨(x - k), (y - m), z, (Mv_2 rfl).mpr (Or.inr (Or.inl ⟨by omega, by omega, rfl⟩)), e74.2.2.2⟩, fun _ => by decide⟩
                    · have e74 : ¬ (k ≤ x ∧ m ≤ y ∧ 0 ≤ z ∧ W (ky (x - k) (y - m) z) = 0) := fun h => hi71.mpr h c74
                      refine z_ald0 E dX1_findsLost_77 ?_
                      refine z_ild1 E dX1_findsLost_78 ?_
                      refine z_ild4 E dX1_findsLost_79 ?_
                      refine z_isubR E dX1_findsLost_81 ?_
                      refine z_ild2 E dX1_findsLost_82 ?_
                      refine z_ild3 E dX1_findsLost_83 ?_
                      refine z_ild5 E dX1_findsLost_84 ?_
                      refine z_isubR E dX1_findsLost_86 ?_
                      refine z1_c_isLost E dX1_findsLost_87 (by decide) (Nat.le_of_ble_eq_true rfl) (m1_isLost g a b c n X Y U W V K M d N x y z k 0 m _ _ _ hx hy hz (rel_sub (by omega)) (rel_0 _) (rel_sub (by omega)) hW) (fun r87 u87 h87 => ?_)
                      obtain ⟨rfl, v87, hv87, rfl, hi87⟩ := h87
                      refine z_if_ne E (show v87 < 2147483648 by omega) 109 dX1_findsLost_90 (by decide) (fun c90 => ?_) (fun c90 => ?_)
                      · have e90 : k ≤ x ∧ 0 ≤ y ∧ m ≤ z ∧ W (ky (x - k) y (z - m)) = 0 := hi87.mp c90
                        refine z_ic1 E dX1_findsLost_109 ?_
                        exact hR dX1_findsLost_110 (by decide) ⟨rfl, 1, by decide, rfl, fun _ => ⟨(x - k), y, (z - m), (Mv_2 rfl).mpr (Or.inr (Or.inr (Or.inl ⟨by omega, rfl, by omega⟩))), e90.2.2.2⟩, fun _ => by decide⟩
                      · have e90 : ¬ (k ≤ x ∧ 0 ≤ y ∧ m ≤ z ∧ W (ky (x - k) y (z - m)) = 0) := fun h => hi87.mpr h c90
                        refine z_ald0 E dX1_findsLost_93 ?_
                        refine z_ild1 E dX1_findsLost_94 ?_
                        refine z_ild2 E dX1_findsLost_95 ?_
                        refine z_ild4 E dX1_findsLost_96 ?_
                        refine z_isubR E dX1_findsLost_98 ?_
                        refine z_ild3 E dX1_findsLost_99 ?_
                        refine z_ild5 E dX1_findsLost_100 ?_
                        refine z_isubR E dX1_findsLost_102 ?_
                        refine z1_c_isLost E dX1_findsLost_103 (by decide) (Nat.le_of_ble_eq_true rfl) (m1_isLost g a b c n X Y U W V K M d N x y z 0 k m _ _ _ hx hy hz (rel_0 _) (rel_sub (by omega)) (rel_sub (by omega)) hW) (fun r103 u103 h103 => ?_)
                        obtain ⟨rfl, v103, hv103, rfl, hi103⟩ := h103
                        refine z_if_eq E (show v103 < 2147483648 by omega) 111 dX1_findsLost_106 (by decide) (fun c106 => ?_) (fun c106 => ?_)
                        · have e106 : ¬ (0 ≤ x ∧ k ≤ y ∧ m ≤ z ∧ W (ky x (y - k) (z - m)) = 0) := fun h => hi103.mpr h c106
                          refine z_inc5 E dX1_findsLost_111 ?_
                          refine z_goto E 54 dX1_findsLost_114 (by decide) ?_
                          exact ih54 (m + 1) (by omega) (by omega) (fl_in hM h0 g0 e74 e90 e106) (by omega)
                        · have e106 : 0 ≤ x ∧ k ≤ y ∧ m ≤ z ∧ W (ky x (y - k) (z - m)) = 0 := hi103.mp c106
                          refine z_ic1 E dX1_findsLost_109 ?_
                          exact hR dX1_findsLost_110 (by decide) ⟨rfl, 1, by decide, rfl, fun _ => ⟨x, (y - k), (z - m), (Mv_2 rfl).mpr (Or.inr (Or.inr (Or.inr ⟨rfl, by omega, by omega⟩))), e106.2.2.2⟩, fun _ => by decide⟩
              exact L54 16 1 (by omega) (by omega) (fl_row hA e20 e33 e46) (by omega)
            · have e46 : 0 ≤ x ∧ 0 ≤ y ∧ k ≤ z ∧ W (ky x y (z - k)) = 0 := hi43.mp c46
              refine z_ic1 E dX1_findsLost_49 ?_
              exact hR dX1_findsLost_50 (by decide) ⟨rfl, 1, by decide, rfl, fun _ => ⟨x, y, (z - k), (Mv_2 rfl).mpr (Or.inl (Or.inr (Or.inr ⟨rfl, rfl, by omega, by omega⟩))), e46.2.2.2⟩, fun _ => by decide⟩
  exact L3 16 1 _ (by omega) (by omega) (fun x' y' z' h => absurd h SP_0) (by omega)
set_option maxHeartbeats 4000000 in
set_option maxRecDepth 100000 in
theorem m1_judge (g : GG) (a b c n : Nat) (X Y U W V K M : Nat → Nat) (d : Nat) (N : Nat → Nat) (q x y z : Nat) (hq : q ≤ 7) (h6 : q ≠ 6) (hB : Bq q x y z) (hW : ∀ k, W k ≤ 1) (hT : Tab q W V (Mv q x y z)) : C1V g yX1_judge cX1_judge 9 3 [.int (nI q), .int (nI x), .int (nI y), .int (nI z)] (a, b, c, n, X, Y, U, W, V, K, M, d, N) (fun u => ∃ (n' : Nat) (X' Y' U' K' : Nat → Nat), u = (a, b, c, n', X', Y', U', upN W (ky x y z) (bn (wonB q x y z)), upN V (ky x y z) (valB q x y z), K', M, d, N)) := by
  refine CtV.of RX1 [some (.ref (go g)), some (.int (nI q)), some (.int (nI x)), some (.int (nI y)), some (.int (nI z)), none, none, none, none] (by decide) rfl (by intro w hw; simp at hw; rcases hw with rfl | rfl | rfl | rfl | rfl <;> rfl) (Nat.le_of_ble_eq_true rfl) rfl ?_
  intro F Q E hR
  refine z_ald0 E dX1_judge_0 ?_
  refine z_ild2 E dX1_judge_1 ?_
  refine z_ild3 E dX1_judge_2 ?_
  refine z_ild4 E dX1_judge_3 ?_
  refine z1_c_key E dX1_judge_5 (by decide) (Nat.le_of_ble_eq_true rfl) (m1_key g _ x y z) (fun r5 u5 h5 => ?_)
  obtain ⟨rfl, rfl⟩ := h5
  refine z_ist5 E dX1_judge_8 ?_
  refine z_ild1 E dX1_judge_10 ?_
  refine z_ic2 E dX1_judge_11 ?_
  refine z_icmp_ne E (by omega) (by omega) 39 dX1_judge_12 (by decide) (fun c12 => ?_) (fun c12 => ?_)
  · have hB3 := hB.bd
    refine z_ald0 E dX1_judge_39 ?_
    refine z_ild1 E dX1_judge_40 ?_
    refine z_ild2 E dX1_judge_41 ?_
    refine z_ild3 E dX1_judge_42 ?_
    refine z_ild4 E dX1_judge_43 ?_
    refine z1_c_list E dX1_judge_45 (by decide) (Nat.le_of_ble_eq_true rfl) (m1_list g a b c n X Y U W V K M d N q x y z hq h6 hB) (fun u45 h45 => ?_)
    obtain ⟨n45, X45, Y45, U45, rfl, hn45, hL45⟩ := h45
    have J65 : ∀ (w0 : Nat), ((w0 = 1 ∧ n45 = 0 ∧ q = 1) ∨ (w0 = 0 ∧ (n45 ≠ 0 ∨ q ≠ 1))) → Z1 g F Q 9 (a, b, c, n45, X45, Y45, U45, W, V, K, M, d, N) 65 [some (.ref (go g)), some (.int (nI q)), some (.int (nI x)), some (.int (nI y)), some (.int (nI z)), some (.int (nI (ky x y z))), none, none, none] [.int (nI w0)] := by
      intro w0 h0
      refine z_ist6 E dX1_judge_65 ?_
      refine z_ic0 E dX1_judge_67 ?_
      refine z_ist7 E dX1_judge_68 ?_
      have L70 : ∀ (fuel : Nat) (v : Nat) (K2 : Nat → Nat), (v ≤ 64) → (∀ j, j < v → K2 j = 0) → (64 < v + fuel) → Z1 g F Q 9 (a, b, c, n45, X45, Y45, U45, W, V, K2, M, d, N) 70 [some (.ref (go g)), some (.int (nI q)), some (.int (nI x)), some (.int (nI y)), some (.int (nI z)), some (.int (nI (ky x y z))), some (.int (nI w0)), some (.int (nI v)), none] [] := by
        intro fuel
        induction fuel with
        | zero =>
          intro v K2 h1 hz h3
          exfalso; omega
        | succ fuel ih70 =>
          intro v K2 h1 hz h3
          refine z_ild7 E dX1_judge_70 ?_
          refine z_bipush E 64 (by decide) dX1_judge_72 ?_
          refine z_icmp_ge E (by omega) (by omega) 91 dX1_judge_74 (by decide) (fun c74 => ?_) (fun c74 => ?_)
          · refine z_ic0 E dX1_judge_91 ?_
            refine z_ist7 E dX1_judge_92 ?_
            have L94 : ∀ (fuel : Nat) (m w : Nat) (K3 : Nat → Nat) (o8 : Option Value), (m ≤ n45) → (∀ j, j < 64 → (K3 j ≤ 1 ∧ (K3 j = 1 ↔ ∃ k, k < m ∧ V (ky (X45 k) (Y45 k) (U45 k)) = j))) → (w ≤ 1) → (w = 1 ↔ w0 = 1 ∨ ∃ k, k < m ∧ W (ky (X45 k) (Y45 k) (U45 k)) = 0) → (n45 < m + fuel) → Z1 g F Q 9 (a, b, c, n45, X45, Y45, U45, W, V, K3, M, d, N) 94 [some (.ref (go g)), some (.int (nI q)), some (.int (nI x)), some (.int (nI y)), some (.int (nI z)), some (.int (nI (ky x y z))), some (.int (nI w)), some (.int (nI m)), o8] [] := by
              intro fuel
              induction fuel with
              | zero =>
                intro m w K3 o8 g1 hK hw hw2 g3
                exfalso; omega
              | succ fuel ih94 =>
                intro m w K3 o8 g1 hK hw hw2 g3
                refine z_ild7 E dX1_judge_94 ?_
                refine z_ald0 E dX1_judge_96 ?_
                refine z1_get_count E dX1_judge_97 ?_
                refine z_icmp_ge E (by omega) (by omega) 162 dX1_judge_100 (by decide) (fun c100 => ?_) (fun c100 => ?_)
                · have em : m = n45 := by omega
                  rw [em] at hK hw2
                  have h16 := judge_16 hB hL45 (fun x1 y1 z1 h => (hT x1 y1 z1 h).2) hK
                  refine z_ic0 E dX1_judge_162 ?_
                  refine z_ist7 E dX1_judge_163 ?_
                  have L165 : ∀ (fuel : Nat) (v : Nat), (v ≤ 16) → (∀ j, j < v → K3 j ≠ 0) → (16 < v + fuel) → Z1 g F Q 9 (a, b, c, n45, X45, Y45, U45, W, V, K3, M, d, N) 165 [some (.ref (go g)), some (.int (nI q)), some (.int (nI x)), some (.int (nI y)), some (.int (nI z)), some (.int (nI (ky x y z))), some (.int (nI w)), some (.int (nI v)), o8] [] := by
                    intro fuel
                    induction fuel with
                    | zero =>
                      intro v k1 hv k3
                      exfalso; omega
                    | succ fuel ih165 =>
                      intro v k1 hv k3
                      refine z_ald0 E dX1_judge_165 ?_
                      refine z1_get_taken E dX1_judge_166 ?_
                      refine z_ild7 E dX1_judge_169 ?_
                      refine z1_ld_taken E (by omega) dX1_judge_171 ?_
                      refine z_if_eq E (Nat.lt_of_le_of_lt (hK v (by omega)).1 (by decide)) 181 dX1_judge_172 (by decide) (fun c172 => ?_) (fun c172 => ?_)
                      · refine z_ald0 E dX1_judge_181 ?_
                        refine z1_get_win E dX1_judge_182 ?_
                        refine z_ild5 E dX1_judge_185 ?_
                        refine z_ild6 E dX1_judge_187 ?_
                        refine z1_st_win E hw (ky_lt hB3) dX1_judge_189 ?_
                        refine z_ald0 E dX1_judge_190 ?_
                        refine z1_get_values E dX1_judge_191 ?_
                        refine z_ild5 E dX1_judge_194 ?_
                        refine z_ild1 E dX1_judge_196 ?_
                        refine z_if_eq E (by omega) 206 dX1_judge_197 (by decide) (fun c197 => ?_) (fun c197 => ?_)
                        · refine z_ild7 E dX1_judge_206 ?_
                          refine z_goto E 212 dX1_judge_208 (by decide) ?_
                          refine z1_st_values E (ky_lt hB3) dX1_judge_212 ?_
                          have ew := judge_win hq h6 hB hL45 (fun x1 y1 z1 h => (hT x1 y1 z1 h).1) h0 hw hw2
                          have ev : v = valB q x y z := judge_mex (by omega) hB hL45 (fun x1 y1 z1 h => (hT x1 y1 z1 h).2) hK (by omega) c172 hv
                          exact hR dX1_judge_213 ⟨n45, X45, Y45, U45, K3, by rw [← ew, ← ev]⟩
                        · refine z_ild1 E dX1_judge_200 ?_
                          refine z_bipush E 7 (by decide) dX1_judge_201 ?_
                          refine z_icmp_ne E (by omega) (by omega) 211 dX1_judge_203 (by decide) (fun c203 => ?_) (fun c203 => ?_)
                          · refine z_ic0 E dX1_judge_211 ?_
                            refine z1_st_values E (ky_lt hB3) dX1_judge_212 ?_
                            have ew := judge_win hq h6 hB hL45 (fun x1 y1 z1 h => (hT x1 y1 z1 h).1) h0 hw hw2
                            have ev : 0 = valB q x y z := (valB_o c197 c203).symm
                            exact hR dX1_judge_213 ⟨n45, X45, Y45, U45, K3, by rw [← ew, ← ev]⟩
                          · refine z_ild7 E dX1_judge_206 ?_
                            refine z_goto E 212 dX1_judge_208 (by decide) ?_
                            refine z1_st_values E (ky_lt hB3) dX1_judge_212 ?_
                            have ew := judge_win hq h6 hB hL45 (fun x1 y1 z1 h => (hT x1 y1 z1 h).1) h0 hw hw2
                            have ev : v = valB q x y z := judge_mex (by omega) hB hL45 (fun x1 y1 z1 h => (hT x1 y1 z1 h).2) hK (by omega) c172 hv
                            exact hR dX1_judge_213 ⟨n45, X45, Y45, U45, K3, by rw [← ew, ← ev]⟩
                      · refine z_inc7 E dX1_judge_175 ?_
                        refine z_goto E 165 dX1_judge_178 (by decide) ?_
                        have hv16 : v < 16 := by
                          rcases Nat.lt_or_ge v 16 with h | h
                          · exact h
                          · have e : v = 16 := by omega
                            rw [e] at c172; exact absurd h16 c172
                        have hv1 : ∀ j, j < v + 1 → K3 j ≠ 0 := by
                          intro j hj
                          rcases Nat.lt_or_ge j v with h | h
                          · exact hv j h
                          · have e : j = v := by omega
                            rw [e]; exact c172
                        exact ih165 (v + 1) (by omega) hv1 (by omega)
                  exact L165 17 0 (by omega) (fun j hj => by omega) (by omega)
                · have hm := (hL45.2 (X45 m) (Y45 m) (U45 m)).mpr ⟨m, c100, rfl, rfl, rfl⟩
                  have hb := (Mv_B hB hm).bd
                  have ht := hT _ _ _ hm
                  have hvl := valB_le (Mv_B hB hm)
                  refine z_ald0 E dX1_judge_103 ?_
                  refine z_ald0 E dX1_judge_104 ?_
                  refine z1_get_xs E dX1_judge_105 ?_
                  refine z_ild7 E dX1_judge_108 ?_
                  refine z1_ld_xs E (by omega) dX1_judge_110 ?_
                  refine z_ald0 E dX1_judge_111 ?_
                  refine z1_get_ys E dX1_judge_112 ?_
                  refine z_ild7 E dX1_judge_115 ?_
                  refine z1_ld_ys E (by omega) dX1_judge_117 ?_
                  refine z_ald0 E dX1_judge_118 ?_
                  refine z1_get_zs E dX1_judge_119 ?_
                  refine z_ild7 E dX1_judge_122 ?_
                  refine z1_ld_zs E (by omega) dX1_judge_124 ?_
                  refine z1_c_key E dX1_judge_125 (by decide) (Nat.le_of_ble_eq_true rfl) (m1_key g _ (X45 m) (Y45 m) (U45 m)) (fun r125 u125 h125 => ?_)
                  obtain ⟨rfl, rfl⟩ := h125
                  refine z_ist8 E dX1_judge_128 ?_
                  have J143 : ∀ (w2 : Nat), (w2 ≤ 1) → (w2 = 1 ↔ w0 = 1 ∨ ∃ k, k < m + 1 ∧ W (ky (X45 k) (Y45 k) (U45 k)) = 0) → Z1 g F Q 9 (a, b, c, n45, X45, Y45, U45, W, V, K3, M, d, N) 143 [some (.ref (go g)), some (.int (nI q)), some (.int (nI x)), some (.int (nI y)), some (.int (nI z)), some (.int (nI (ky x y z))), some (.int (nI w2)), some (.int (nI m)), some (.int (nI (ky (X45 m) (Y45 m) (U45 m))))] [] := by
                    intro w2 hw3 hw4
                    refine z_ald0 E dX1_judge_143 ?_
                    refine z1_get_taken E dX1_judge_144 ?_
                    refine z_ald0 E dX1_judge_147 ?_
                    refine z1_get_values E dX1_judge_148 ?_
                    refine z_ild8 E dX1_judge_151 ?_
                    refine z1_ld_values E (ky_lt hb) dX1_judge_153 ?_
                    refine z_ic1 E dX1_judge_154 ?_
                    refine z1_st_taken E (by decide) (show V (ky (X45 m) (Y45 m) (U45 m)) < 64 by rw [ht.2]; omega) dX1_judge_155 ?_
                    refine z_inc7 E dX1_judge_156 ?_
                    refine z_goto E 94 dX1_judge_159 (by decide) ?_
                    exact ih94 (m + 1) w2 _ _ (by omega) (tk_step (show V (ky (X45 m) (Y45 m) (U45 m)) < 64 by rw [ht.2]; omega) hK) hw3 hw4 (by omega)
                  refine z_ald0 E dX1_judge_130 ?_
                  refine z1_get_win E dX1_judge_131 ?_
                  refine z_ild8 E dX1_judge_134 ?_
                  refine z1_ld_win E (ky_lt hb) dX1_judge_136 ?_
                  refine z_if_ne E (Nat.lt_of_le_of_lt (hW _) (by decide)) 143 dX1_judge_137 (by decide) (fun c137 => ?_) (fun c137 => ?_)
                  · exact J143 w hw (wk_no (P := fun k => W (ky (X45 k) (Y45 k) (U45 k)) = 0) hw2 c137)
                  · refine z_ic1 E dX1_judge_140 ?_
                    refine z_ist6 E dX1_judge_141 ?_
                    exact J143 1 (by decide) (wk_yes (P := fun k => W (ky (X45 k) (Y45 k) (U45 k)) = 0) c137)
            exact L94 (n45 + 1) 0 w0 K2 _ (by omega) (tk_init (by omega) hz) (by omega) ⟨Or.inl, fun h => h.elim id (fun ⟨k, hk, _⟩ => by omega)⟩ (by omega)
          · refine z_ald0 E dX1_judge_77 ?_
            refine z1_get_taken E dX1_judge_78 ?_
            refine z_ild7 E dX1_judge_81 ?_
            refine z_ic0 E dX1_judge_83 ?_
            refine z1_st_taken E (by decide) (by omega) dX1_judge_84 ?_
            refine z_inc7 E dX1_judge_85 ?_
            refine z_goto E 70 dX1_judge_88 (by decide) ?_
            exact ih70 (v + 1) _ (by omega) (tk_zero hz) (by omega)
      exact L70 65 0 K (by omega) (fun j hj => by omega) (by omega)
    refine z_ald0 E dX1_judge_48 ?_
    refine z1_get_count E dX1_judge_49 ?_
    refine z_if_ne E (by omega) 64 dX1_judge_52 (by decide) (fun c52 => ?_) (fun c52 => ?_)
    · refine z_ic0 E dX1_judge_64 ?_
      exact J65 _ (by omega)
    · refine z_ild1 E dX1_judge_55 ?_
      refine z_ic1 E dX1_judge_56 ?_
      refine z_icmp_ne E (by omega) (by omega) 64 dX1_judge_57 (by decide) (fun c57 => ?_) (fun c57 => ?_)
      · refine z_ic0 E dX1_judge_64 ?_
        exact J65 _ (by omega)
      · refine z_ic1 E dX1_judge_60 ?_
        refine z_goto E 65 dX1_judge_61 (by decide) ?_
        exact J65 _ (by omega)
  · obtain rfl : q = 2 := c12
    have hB3 := hB.n3 (by decide)
    refine z_ald0 E dX1_judge_15 ?_
    refine z1_get_values E dX1_judge_16 ?_
    refine z_ild5 E dX1_judge_19 ?_
    refine z_ic0 E dX1_judge_21 ?_
    refine z1_st_values E (ky_lt hB.bd) dX1_judge_22 ?_
    refine z_ald0 E dX1_judge_23 ?_
    refine z1_get_win E dX1_judge_24 ?_
    refine z_ild5 E dX1_judge_27 ?_
    refine z_ald0 E dX1_judge_29 ?_
    refine z_ild2 E dX1_judge_30 ?_
    refine z_ild3 E dX1_judge_31 ?_
    refine z_ild4 E dX1_judge_32 ?_
    refine z1_c_findsLost E dX1_judge_34 (by decide) (Nat.le_of_ble_eq_true rfl) (m1_findsLost g _ _ _ _ _ _ _ _ _ _ _ _ _ x y z (by omega) (by omega) (by omega) hW) (fun r34 u34 h34 => ?_)
    obtain ⟨rfl, v34, hv34, rfl, hi34⟩ := h34
    refine z1_st_win E hv34 (ky_lt hB.bd) dX1_judge_37 ?_
    have e38 : v34 = bn (wonB 2 x y z) := judge_two hB (fun x1 y1 z1 h => (hT x1 y1 z1 h).1) hv34 hi34
    exact hR dX1_judge_38 ⟨n, X, Y, U, K, by rw [← e38]; rfl⟩
set_option maxHeartbeats 4000000 in
set_option maxRecDepth 100000 in
theorem m1_fill (g : GG) (a b c n : Nat) (X Y U W V K M : Nat → Nat) (d : Nat) (N : Nat → Nat) (q : Nat) (ha : a ≤ 15) (hb : b ≤ 15) (hc : c ≤ 15) (hq : q ≤ 7) (h6 : q ≠ 6) (hW : ∀ k, W k ≤ 1) : C1V g yX1_fill cX1_fill 7 4 [.int (nI q)] (a, b, c, n, X, Y, U, W, V, K, M, d, N) (fun u => ∃ (n' : Nat) (X' Y' U' W' V' K' : Nat → Nat), u = (a, b, c, n', X', Y', U', W', V', K', M, d, N) ∧ (∀ k, W' k ≤ 1) ∧ Tab q W' V' (Reg q a b c)) := by
  refine CtV.of RX1 [some (.ref (go g)), some (.int (nI q)), none, none, none, none, none] (by decide) rfl (by intro w hw; simp at hw; rcases hw with rfl | rfl <;> rfl) (Nat.le_of_ble_eq_true rfl) rfl ?_
  intro F Q E hR
  refine z_ild1 E dX1_fill_0 ?_
  refine z_ic3 E dX1_fill_1 ?_
  refine z_icmp_ne E (by omega) (by omega) 112 dX1_fill_2 (by decide) (fun c2 => ?_) (fun c2 => ?_)
  · have J127 : ∀ (v : Nat), ((v = 1 ∧ (q = 4 ∨ q = 5)) ∨ (v = 0 ∧ q ≠ 4 ∧ q ≠ 5)) → Z1 g F Q 7 (a, b, c, n, X, Y, U, W, V, K, M, d, N) 127 [some (.ref (go g)), some (.int (nI q)), none, none, none, none, none] [.int (nI v)] := by
      intro v hv
      refine z_ist2 E dX1_fill_127 ?_
      have J142 : ∀ (z0 : Nat), ((z0 = c ∧ (q = 4 ∨ q = 5)) ∨ (z0 = 0 ∧ q ≠ 4 ∧ q ≠ 5)) → Z1 g F Q 7 (a, b, c, n, X, Y, U, W, V, K, M, d, N) 142 [some (.ref (go g)), some (.int (nI q)), some (.int (nI v)), none, none, none, none] [.int (nI z0)] := by
        intro z0 hz0
        refine z_ist3 E dX1_fill_142 ?_
        have L143 : ∀ (fuel : Nat) (z : Nat) (n' : Nat) (X' Y' U' W' V' K' : Nat → Nat) (o4 o5 : Option Value), (z ≤ c + 1) → (q = 4 ∨ q = 5 → c ≤ z) → (∀ k, W' k ≤ 1) → (Tab q W' V' (RegO q a b c z 0 0)) → (c + 1 < z + fuel) → Z1 g F Q 7 (a, b, c, n', X', Y', U', W', V', K', M, d, N) 143 [some (.ref (go g)), some (.int (nI q)), some (.int (nI v)), some (.int (nI z)), o4, o5, none] [] := by
          intro fuel
          induction fuel with
          | zero =>
            intro z n' X' Y' U' W' V' K' o4 o5 h1 h2 hW' hT h3
            exfalso; omega
          | succ fuel ih143 =>
            intro z n' X' Y' U' W' V' K' o4 o5 h1 h2 hW' hT h3
            refine z_ild3 E dX1_fill_143 ?_
            refine z1_H2 E dX1_fill_144 dX1_fill_145 dX1_fill_148 dX1_fill_149 ?_
            refine z_icmp_gt E (by omega) (by omega) 209 dX1_fill_150 (by decide) (fun c150 => ?_) (fun c150 => ?_)
            · exact hR dX1_fill_209 ⟨n', X', Y', U', W', V', K', rfl, hW', ro_fin c2 hT c150⟩
            · refine z_ic0 E dX1_fill_153 ?_
              refine z_ist4 E dX1_fill_154 ?_
              have L156 : ∀ (fuel : Nat) (y : Nat) (n' : Nat) (X' Y' U' W' V' K' : Nat → Nat) (o5 : Option Value), (y ≤ b + 1) → (∀ k, W' k ≤ 1) → (Tab q W' V' (RegO q a b c z y 0)) → (b + 1 < y + fuel) → Z1 g F Q 7 (a, b, c, n', X', Y', U', W', V', K', M, d, N) 156 [some (.ref (go g)), some (.int (nI q)), some (.int (nI v)), some (.int (nI z)), some (.int (nI y)), o5, none] [] := by
                intro fuel
                induction fuel with
                | zero =>
                  intro y n' X' Y' U' W' V' K' o5 g1 hW' hT g3
                  exfalso; omega
                | succ fuel ih156 =>
                  intro y n' X' Y' U' W' V' K' o5 g1 hW' hT g3
                  refine z_ild4 E dX1_fill_156 ?_
                  refine z1_H1 E dX1_fill_158 dX1_fill_159 dX1_fill_162 dX1_fill_163 ?_
                  refine z_icmp_gt E (by omega) (by omega) 203 dX1_fill_164 (by decide) (fun c164 => ?_) (fun c164 => ?_)
                  · refine z_inc3 E dX1_fill_203 ?_
                    refine z_goto E 143 dX1_fill_206 (by decide) ?_
                    exact ih143 (z + 1) _ _ _ _ _ _ _ _ _ (by omega) (by omega) hW' (ro_out1 hT c164) (by omega)
                  · refine z_ic0 E dX1_fill_167 ?_
                    refine z_ist5 E dX1_fill_168 ?_
                    have L170 : ∀ (fuel : Nat) (x : Nat) (n' : Nat) (X' Y' U' W' V' K' : Nat → Nat), (x ≤ a + 1) → (∀ k, W' k ≤ 1) → (Tab q W' V' (RegO q a b c z y x)) → (a + 1 < x + fuel) → Z1 g F Q 7 (a, b, c, n', X', Y', U', W', V', K', M, d, N) 170 [some (.ref (go g)), some (.int (nI q)), some (.int (nI v)), some (.int (nI z)), some (.int (nI y)), some (.int (nI x)), none] [] := by
                      intro fuel
                      induction fuel with
                      | zero =>
                        intro x n' X' Y' U' W' V' K' k1 hW' hT k3
                        exfalso; omega
                      | succ fuel ih170 =>
                        intro x n' X' Y' U' W' V' K' k1 hW' hT k3
                        refine z_ild5 E dX1_fill_170 ?_
                        refine z1_H0 E dX1_fill_172 dX1_fill_173 dX1_fill_176 dX1_fill_177 ?_
                        refine z_icmp_gt E (by omega) (by omega) 197 dX1_fill_178 (by decide) (fun c178 => ?_) (fun c178 => ?_)
                        · refine z_inc4 E dX1_fill_197 ?_
                          refine z_goto E 156 dX1_fill_200 (by decide) ?_
                          exact ih156 (y + 1) _ _ _ _ _ _ _ _ (by omega) hW' (ro_out2 hT c178) (by omega)
                        · refine z_ald0 E dX1_fill_181 ?_
                          refine z_ild1 E dX1_fill_182 ?_
                          refine z_ild5 E dX1_fill_183 ?_
                          refine z_ild4 E dX1_fill_185 ?_
                          refine z_ild3 E dX1_fill_187 ?_
                          refine z1_c_judge E dX1_fill_188 (by decide) (Nat.le_of_ble_eq_true rfl) (m1_judge g _ _ _ _ _ _ _ W' V' _ _ _ _ q x y z hq h6 (Or.inr ⟨c2, by omega, by omega, by omega⟩) hW' (ro_T c2 hT (by omega) (by omega) (by omega) h2)) (fun u188 h188 => ?_)
                          obtain ⟨n2, X2, Y2, U2, K2, rfl⟩ := h188
                          refine z_inc5 E dX1_fill_191 ?_
                          refine z_goto E 170 dX1_fill_194 (by decide) ?_
                          exact ih170 (x + 1) _ _ _ _ _ _ _ (by omega) (up_le hW' (bn_le _)) (ro_put c2 hT ha hb hc (by omega) (by omega)) (by omega)
                    exact L170 (a + 2) 0 _ _ _ _ _ _ _ (by omega) hW' hT (by omega)
              exact L156 (b + 2) 0 _ _ _ _ _ _ _ _ (by omega) hW' hT (by omega)
        exact L143 (c + 2) z0 n X Y U W V K _ _ (by omega) (by omega) hW (ro_0 hz0) (by omega)
      refine z_ild2 E dX1_fill_128 ?_
      refine z_if_eq E (by omega) 141 dX1_fill_129 (by decide) (fun c129 => ?_) (fun c129 => ?_)
      · refine z_ic0 E dX1_fill_141 ?_
        exact J142 _ (by omega)
      · refine z1_H2 E dX1_fill_132 dX1_fill_133 dX1_fill_136 dX1_fill_137 ?_
        refine z_goto E 142 dX1_fill_138 (by decide) ?_
        exact J142 _ (by omega)
    refine z_ild1 E dX1_fill_112 ?_
    refine z_ic4 E dX1_fill_113 ?_
    refine z_icmp_eq E (by omega) (by omega) 122 dX1_fill_114 (by decide) (fun c114 => ?_) (fun c114 => ?_)
    · refine z_ic1 E dX1_fill_122 ?_
      refine z_goto E 127 dX1_fill_123 (by decide) ?_
      exact J127 _ (by omega)
    · refine z_ild1 E dX1_fill_117 ?_
      refine z_ic5 E dX1_fill_118 ?_
      refine z_icmp_ne E (by omega) (by omega) 126 dX1_fill_119 (by decide) (fun c119 => ?_) (fun c119 => ?_)
      · refine z_ic0 E dX1_fill_126 ?_
        exact J127 _ (by omega)
      · refine z_ic1 E dX1_fill_122 ?_
        refine z_goto E 127 dX1_fill_123 (by decide) ?_
        exact J127 _ (by omega)
  · obtain rfl : q = 3 := c2
    refine z1_H0 E dX1_fill_5 dX1_fill_6 dX1_fill_9 dX1_fill_10 ?_
    refine z1_H1 E dX1_fill_11 dX1_fill_12 dX1_fill_15 dX1_fill_16 ?_
    refine z_iadd E dX1_fill_17 ?_
    refine z1_H2 E dX1_fill_18 dX1_fill_19 dX1_fill_22 dX1_fill_23 ?_
    refine z_iadd E dX1_fill_24 ?_
    refine z_ist2 E dX1_fill_25 ?_
    refine z1_H1 E dX1_fill_26 dX1_fill_27 dX1_fill_30 dX1_fill_31 ?_
    refine z1_H2 E dX1_fill_32 dX1_fill_33 dX1_fill_36 dX1_fill_37 ?_
    refine z_iadd E dX1_fill_38 ?_
    refine z_ist3 E dX1_fill_39 ?_
    refine z_ic0 E dX1_fill_40 ?_
    refine z_ist4 E dX1_fill_41 ?_
    have L43 : ∀ (fuel : Nat) (z : Nat) (n' : Nat) (X' Y' U' W' V' K' : Nat → Nat) (o5 o6 : Option Value), (z ≤ c + 1) → (∀ k, W' k ≤ 1) → (Tab 3 W' V' (Reg3 a b c z 0 0)) → (c + 1 < z + fuel) → Z1 g F Q 7 (a, b, c, n', X', Y', U', W', V', K', M, d, N) 43 [some (.ref (go g)), some (.int (nI 3)), some (.int (nI (a + b + c))), some (.int (nI (b + c))), some (.int (nI z)), o5, o6] [] := by
      intro fuel
      induction fuel with
      | zero =>
        intro z n' X' Y' U' W' V' K' o5 o6 h1 hW' hT h3
        exfalso; omega
      | succ fuel ih43 =>
        intro z n' X' Y' U' W' V' K' o5 o6 h1 hW' hT h3
        refine z_ild4 E dX1_fill_43 ?_
        refine z1_H2 E dX1_fill_45 dX1_fill_46 dX1_fill_49 dX1_fill_50 ?_
        refine z_icmp_gt E (by omega) (by omega) 109 dX1_fill_51 (by decide) (fun c51 => ?_) (fun c51 => ?_)
        · refine z_goto E 209 dX1_fill_109 (by decide) ?_
          exact hR dX1_fill_209 ⟨n', X', Y', U', W', V', K', rfl, hW', r3_fin hT c51⟩
        · refine z_ild4 E dX1_fill_54 ?_
          refine z_ist5 E dX1_fill_56 ?_
          have L58 : ∀ (fuel : Nat) (t : Nat) (n' : Nat) (X' Y' U' W' V' K' : Nat → Nat) (o6 : Option Value), (z ≤ t) → (t ≤ b + c + 1) → (∀ k, W' k ≤ 1) → (Tab 3 W' V' (Reg3 a b c z t 0)) → (b + c + 1 < t + fuel) → Z1 g F Q 7 (a, b, c, n', X', Y', U', W', V', K', M, d, N) 58 [some (.ref (go g)), some (.int (nI 3)), some (.int (nI (a + b + c))), some (.int (nI (b + c))), some (.int (nI z)), some (.int (nI t)), o6] [] := by
            intro fuel
            induction fuel with
            | zero =>
              intro t n' X' Y' U' W' V' K' o6 g0 g1 hW' hT g3
              exfalso; omega
            | succ fuel ih58 =>
              intro t n' X' Y' U' W' V' K' o6 g0 g1 hW' hT g3
              refine z_ild5 E dX1_fill_58 ?_
              refine z_ild3 E dX1_fill_60 ?_
              refine z_icmp_gt E (by omega) (by omega) 103 dX1_fill_61 (by decide) (fun c61 => ?_) (fun c61 => ?_)
              · refine z_inc4 E dX1_fill_103 ?_
                refine z_goto E 43 dX1_fill_106 (by decide) ?_
                exact ih43 (z + 1) _ _ _ _ _ _ _ _ _ (by omega) hW' (r3_out1 hT c61) (by omega)
              · refine z_ild5 E dX1_fill_64 ?_
                refine z_ist6 E dX1_fill_66 ?_
                have L68 : ∀ (fuel : Nat) (s : Nat) (n' : Nat) (X' Y' U' W' V' K' : Nat → Nat), (t ≤ s) → (s ≤ a + b + c + 1) → (∀ k, W' k ≤ 1) → (Tab 3 W' V' (Reg3 a b c z t s)) → (a + b + c + 1 < s + fuel) → Z1 g F Q 7 (a, b, c, n', X', Y', U', W', V', K', M, d, N) 68 [some (.ref (go g)), some (.int (nI 3)), some (.int (nI (a + b + c))), some (.int (nI (b + c))), some (.int (nI z)), some (.int (nI t)), some (.int (nI s))] [] := by
                  intro fuel
                  induction fuel with
                  | zero =>
                    intro s n' X' Y' U' W' V' K' k0 k1 hW' hT k3
                    exfalso; omega
                  | succ fuel ih68 =>
                    intro s n' X' Y' U' W' V' K' k0 k1 hW' hT k3
                    refine z_ild6 E dX1_fill_68 ?_
                    refine z_ild2 E dX1_fill_70 ?_
                    refine z_icmp_gt E (by omega) (by omega) 97 dX1_fill_71 (by decide) (fun c71 => ?_) (fun c71 => ?_)
                    · refine z_inc5 E dX1_fill_97 ?_
                      refine z_goto E 58 dX1_fill_100 (by decide) ?_
                      exact ih58 (t + 1) _ _ _ _ _ _ _ _ (by omega) (by omega) hW' (r3_out2 hT c71) (by omega)
                    · refine z_ald0 E dX1_fill_74 ?_
                      refine z_ild1 E dX1_fill_75 ?_
                      refine z_ild6 E dX1_fill_76 ?_
                      refine z_ild5 E dX1_fill_78 ?_
                      refine z_isub E (by omega) dX1_fill_80 ?_
                      refine z_ild5 E dX1_fill_81 ?_
                      refine z_ild4 E dX1_fill_83 ?_
                      refine z_isub E (by omega) dX1_fill_85 ?_
                      refine z_ild4 E dX1_fill_86 ?_
                      refine z1_c_judge E dX1_fill_88 (by decide) (Nat.le_of_ble_eq_true rfl) (m1_judge g _ _ _ _ _ _ _ W' V' _ _ _ _ 3 (s - t) (t - z) z hq h6 (Or.inl ⟨rfl, by omega, by omega, by omega⟩) hW' (r3_T hT (by omega) g0 (by omega) k0 (by omega))) (fun u88 h88 => ?_)
                      obtain ⟨n2, X2, Y2, U2, K2, rfl⟩ := h88
                      refine z_inc6 E dX1_fill_91 ?_
                      refine z_goto E 68 dX1_fill_94 (by decide) ?_
                      exact ih68 (s + 1) _ _ _ _ _ _ _ (by omega) (by omega) (up_le hW' (bn_le _)) (r3_put hT ha hb hc (by omega) g0 (by omega) k0 (by omega)) (by omega)
                exact L68 (a + b + c + 2) t _ _ _ _ _ _ _ (by omega) (by omega) hW' (r3_in2 hT) (by omega)
          exact L58 (b + c + 2) z _ _ _ _ _ _ _ _ (by omega) (by omega) hW' (r3_in1 hT) (by omega)
    exact L43 (c + 2) 0 n X Y U W V K _ _ (by omega) hW r3_0 (by omega)
set_option maxHeartbeats 4000000 in
set_option maxRecDepth 100000 in
theorem m1_counters (g : GG) (a b c n : Nat) (X Y U W V K M : Nat → Nat) (d : Nat) (N : Nat → Nat) (ha : a ≤ 15) (hb : b ≤ 15) : C1I g yX1_counters cX1_counters 2 .int 0 [] (a, b, c, n, X, Y, U, W, V, K, M, d, N) (fun r u => u = (a, b, c, n, X, Y, U, W, V, K, M, d, N) ∧ r = nI (sgl a b)) := by
  refine CtI.of RX1 [some (.ref (go g)), none] (by decide) rfl (by intro w hw; simp at hw; rcases hw with rfl <;> rfl) (Nat.le_of_ble_eq_true rfl) rfl ?_
  intro F Q E hR
  refine z1_H0 E dX1_counters_0 dX1_counters_1 dX1_counters_4 dX1_counters_5 ?_
  refine z_bipush E 16 (by decide) dX1_counters_6 ?_
  refine z1_H1 E dX1_counters_8 dX1_counters_9 dX1_counters_12 dX1_counters_13 ?_
  refine z_imul E dX1_counters_14 ?_
  refine z_iadd E dX1_counters_15 ?_
  refine z_ist1 E dX1_counters_16 ?_
  refine z_ild1 E dX1_counters_17 ?_
  refine z_bipush E 60 (by decide) dX1_counters_18 ?_
  refine z_icmp_le E (by omega) (by omega) 28 dX1_counters_20 (by decide) (fun c20 => ?_) (fun c20 => ?_)
  · refine z_ild1 E dX1_counters_28 ?_
    exact hR dX1_counters_29 ⟨rfl, by rw [sgl, if_neg (by omega)]⟩
  · refine z_bipush E 60 (by decide) dX1_counters_23 ?_
    refine z_goto E 29 dX1_counters_25 (by decide) ?_
    exact hR dX1_counters_29 ⟨rfl, by rw [sgl, if_pos (by omega)]⟩
set_option maxHeartbeats 4000000 in
set_option maxRecDepth 100000 in
theorem m1_atMost (g : GG) (st : S1) (l : Nat) (hl : l ≤ 120) : C1I g yX1_atMost cX1_atMost 2 .int 0 [.int (nI l)] st (fun r u => u = st ∧ r = nI (am l)) := by
  refine CtI.of RX1 [some (.ref (go g)), some (.int (nI l))] (by decide) rfl (by intro w hw; simp at hw; rcases hw with rfl | rfl <;> rfl) (Nat.le_of_ble_eq_true rfl) rfl ?_
  intro F Q E hR
  refine z_ild1 E dX1_atMost_0 ?_
  refine z_bipush E 60 (by decide) dX1_atMost_1 ?_
  refine z_icmp_le E (by omega) (by omega) 11 dX1_atMost_3 (by decide) (fun c3 => ?_) (fun c3 => ?_)
  · refine z_ild1 E dX1_atMost_11 ?_
    exact hR dX1_atMost_12 ⟨rfl, by rw [am, if_neg (by omega)]⟩
  · refine z_bipush E 60 (by decide) dX1_atMost_6 ?_
    refine z_goto E 12 dX1_atMost_8 (by decide) ?_
    exact hR dX1_atMost_12 ⟨rfl, by rw [am, if_pos (by omega)]⟩
set_option maxHeartbeats 4000000 in
set_option maxRecDepth 100000 in
theorem m1_fillLimited (g : GG) (a b c n : Nat) (X Y U W V K M : Nat → Nat) (d : Nat) (N : Nat → Nat) : C1V g yX1_fillLimited cX1_fillLimited 5 1 [] (a, b, c, n, X, Y, U, W, V, K, M, d, N) (fun u => ∃ M' : Nat → Nat, u = (a, b, c, n, X, Y, U, W, V, K, M', d, N) ∧ ∀ p l, p ≤ 60 → l ≤ 60 → M' (61 * p + l) = bn (wwB p l)) := by
  refine CtV.of RX1 [some (.ref (go g)), none, none, none, none] (by decide) rfl (by intro w hw; simp at hw; rcases hw with rfl <;> rfl) (Nat.le_of_ble_eq_true rfl) rfl ?_
  intro F Q E hR
  refine z_ic0 E dX1_fillLimited_0 ?_
  refine z_ist1 E dX1_fillLimited_1 ?_
  have L2 : ∀ (fuel : Nat) (p : Nat) (M' : Nat → Nat) (o2 o3 o4 : Option Value), (p ≤ 61) → (LmT p 0 M') → (61 < p + fuel) → Z1 g F Q 5 (a, b, c, n, X, Y, U, W, V, K, M', d, N) 2 [some (.ref (go g)), some (.int (nI p)), o2, o3, o4] [] := by
    intro fuel
    induction fuel with
    | zero =>
      intro p M' o2 o3 o4 h1 hM h3
      exfalso; omega
    | succ fuel ih2 =>
      intro p M' o2 o3 o4 h1 hM h3
      refine z_ild1 E dX1_fillLimited_2 ?_
      refine z_bipush E 60 (by decide) dX1_fillLimited_3 ?_
      refine z_icmp_gt E (by omega) (by omega) 97 dX1_fillLimited_5 (by decide) (fun c5 => ?_) (fun c5 => ?_)
      · exact hR dX1_fillLimited_97 ⟨M', rfl, fun p' l' h1 h2 => hM p' l' h2 (Or.inl (by omega))⟩
      · refine z_ic0 E dX1_fillLimited_8 ?_
        refine z_ist2 E dX1_fillLimited_9 ?_
        have L10 : ∀ (fuel : Nat) (l : Nat) (M' : Nat → Nat) (o3 o4 : Option Value), (l ≤ 61) → (LmT p l M') → (61 < l + fuel) → Z1 g F Q 5 (a, b, c, n, X, Y, U, W, V, K, M', d, N) 10 [some (.ref (go g)), some (.int (nI p)), some (.int (nI l)), o3, o4] [] := by
          intro fuel
          induction fuel with
          | zero =>
            intro l M' o3 o4 g1 hM g3
            exfalso; omega
          | succ fuel ih10 =>
            intro l M' o3 o4 g1 hM g3
            refine z_ild2 E dX1_fillLimited_10 ?_
            refine z_bipush E 60 (by decide) dX1_fillLimited_11 ?_
            refine z_icmp_gt E (by omega) (by omega) 91 dX1_fillLimited_13 (by decide) (fun c13 => ?_) (fun c13 => ?_)
            · refine z_inc1 E dX1_fillLimited_91 ?_
              refine z_goto E 2 dX1_fillLimited_94 (by decide) ?_
              exact ih2 (p + 1) _ _ _ _ (by omega) (hM.row c13) (by omega)
            · refine z_ic0 E dX1_fillLimited_16 ?_
              refine z_ist3 E dX1_fillLimited_17 ?_
              refine z_ic1 E dX1_fillLimited_18 ?_
              refine z_ist4 E dX1_fillLimited_19 ?_
              have L21 : ∀ (fuel : Nat) (k w : Nat), (1 ≤ k) → (k ≤ 61) → (FW p l k w) → (61 < k + fuel) → Z1 g F Q 5 (a, b, c, n, X, Y, U, W, V, K, M', d, N) 21 [some (.ref (go g)), some (.int (nI p)), some (.int (nI l)), some (.int (nI w)), some (.int (nI k))] [] := by
                intro fuel
                induction fuel with
                | zero =>
                  intro k w k0 k1 hw k3
                  exfalso; omega
                | succ fuel ih21 =>
                  intro k w k0 k1 hw k3
                  refine z_ild4 E dX1_fillLimited_21 ?_
                  refine z_ild1 E dX1_fillLimited_23 ?_
                  refine z_icmp_gt E (by omega) (by omega) 73 dX1_fillLimited_24 (by decide) (fun c24 => ?_) (fun c24 => ?_)
                  · refine z_ald0 E dX1_fillLimited_73 ?_
                    refine z1_get_limited E dX1_fillLimited_74 ?_
                    refine z_bipush E 61 (by decide) dX1_fillLimited_77 ?_
                    refine z_ild1 E dX1_fillLimited_79 ?_
                    refine z_imul E dX1_fillLimited_80 ?_
                    refine z_ild2 E dX1_fillLimited_81 ?_
                    refine z_iadd E dX1_fillLimited_82 ?_
                    refine z_ild3 E dX1_fillLimited_83 ?_
                    refine z1_st_limited E hw.1 (by omega) dX1_fillLimited_84 ?_
                    refine z_inc2 E dX1_fillLimited_85 ?_
                    refine z_goto E 10 dX1_fillLimited_88 (by decide) ?_
                    exact ih10 (l + 1) _ _ _ (by omega) (hM.put (by omega) (hw.fin (by omega) (by omega))) (by omega)
                  · refine z_ild4 E dX1_fillLimited_27 ?_
                    refine z_ild2 E dX1_fillLimited_29 ?_
                    refine z_icmp_gt E (by omega) (by omega) 73 dX1_fillLimited_30 (by decide) (fun c30 => ?_) (fun c30 => ?_)
                    · refine z_ald0 E dX1_fillLimited_73 ?_
                      refine z1_get_limited E dX1_fillLimited_74 ?_
                      refine z_bipush E 61 (by decide) dX1_fillLimited_77 ?_
                      refine z_ild1 E dX1_fillLimited_79 ?_
                      refine z_imul E dX1_fillLimited_80 ?_
                      refine z_ild2 E dX1_fillLimited_81 ?_
                      refine z_iadd E dX1_fillLimited_82 ?_
                      refine z_ild3 E dX1_fillLimited_83 ?_
                      refine z1_st_limited E hw.1 (by omega) dX1_fillLimited_84 ?_
                      refine z_inc2 E dX1_fillLimited_85 ?_
                      refine z_goto E 10 dX1_fillLimited_88 (by decide) ?_
                      exact ih10 (l + 1) _ _ _ (by omega) (hM.put (by omega) (hw.fin (by omega) (by omega))) (by omega)
                    · have J66 : ∀ (w2 : Nat), (FW p l (k + 1) w2) → Z1 g F Q 5 (a, b, c, n, X, Y, U, W, V, K, M', d, N) 66 [some (.ref (go g)), some (.int (nI p)), some (.int (nI l)), some (.int (nI w)), some (.int (nI k))] [.int (nI w2)] := by
                        intro w2 hw2
                        refine z_ist3 E dX1_fillLimited_66 ?_
                        refine z_inc4 E dX1_fillLimited_67 ?_
                        refine z_goto E 21 dX1_fillLimited_70 (by decide) ?_
                        exact ih21 (k + 1) w2 (by omega) (by omega) hw2 (by omega)
                      refine z_ild3 E dX1_fillLimited_33 ?_
                      refine z_if_ne E (show w < 2147483648 by have := hw.1; omega) 61 dX1_fillLimited_34 (by decide) (fun c34 => ?_) (fun c34 => ?_)
                      · refine z_ic1 E dX1_fillLimited_61 ?_
                        refine z_goto E 66 dX1_fillLimited_62 (by decide) ?_
                        exact J66 _ (hw.keep c34)
                      · refine z_ald0 E dX1_fillLimited_37 ?_
                        refine z1_get_limited E dX1_fillLimited_38 ?_
                        refine z_bipush E 61 (by decide) dX1_fillLimited_41 ?_
                        refine z_ild1 E dX1_fillLimited_43 ?_
                        refine z_ild4 E dX1_fillLimited_44 ?_
                        refine z_isub E (by omega) dX1_fillLimited_46 ?_
                        refine z_imul E dX1_fillLimited_47 ?_
                        refine z_ald0 E dX1_fillLimited_48 ?_
                        refine z_ic2 E dX1_fillLimited_49 ?_
                        refine z_ild4 E dX1_fillLimited_50 ?_
                        refine z_imul E dX1_fillLimited_52 ?_
                        refine z1_c_atMost E dX1_fillLimited_53 (by decide) (Nat.le_of_ble_eq_true rfl) (m1_atMost g _ (2 * k) (by omega)) (fun r53 u53 h53 => ?_)
                        obtain ⟨rfl, rfl⟩ := h53
                        have hal := am_le (2 * k)
                        have e9 := hM (p - k) (am (2 * k)) hal (Or.inl (by omega))
                        rw [ww_am] at e9
                        refine z_iadd E dX1_fillLimited_56 ?_
                        refine z1_ld_limited E (by omega) dX1_fillLimited_57 ?_
                        refine z_if_ne E (show M' (61 * (p - k) + am (2 * k)) < 2147483648 by rw [e9]; exact Nat.lt_of_le_of_lt (bn_le _) (by decide)) 65 dX1_fillLimited_58 (by decide) (fun c58 => ?_) (fun c58 => ?_)
                        · refine z_ic0 E dX1_fillLimited_65 ?_
                          exact J66 _ (hw.miss c34 (bn_1 (fun h => c58 (e9.trans h))))
                        · refine z_ic1 E dX1_fillLimited_61 ?_
                          refine z_goto E 66 dX1_fillLimited_62 (by decide) ?_
                          exact J66 _ (FW.hit k0 (by omega) (by omega) (bn_0 (e9.symm.trans c58)))
              exact L21 62 1 0 (by omega) (by omega) (FW.zero p l) (by omega)
        exact L10 62 0 M' _ _ (by omega) hM (by omega)
  exact L2 62 0 M _ _ _ (by omega) LmT.zero (by omega)
set_option maxHeartbeats 4000000 in
set_option maxRecDepth 100000 in
theorem m1_note (g : GG) (a b c n : Nat) (X Y U W V K M : Nat → Nat) (d : Nat) (N : Nat → Nat) (x : Nat) (hs : Srt d N) (hx : x < 65536) (hn : d < 800) (hnew : ¬ In d N x) : C1V g yX1_note cX1_note 3 0 [.int (nI x)] (a, b, c, n, X, Y, U, W, V, K, M, d, N) (fun u => ∃ N' : Nat → Nat, u = (a, b, c, n, X, Y, U, W, V, K, M, d + 1, N') ∧ Srt (d + 1) N' ∧ ∀ v, In (d + 1) N' v ↔ In d N v ∨ v = x) := by
  refine CtV.of RX1 [some (.ref (go g)), some (.int (nI x)), none] (by decide) rfl (by intro w hw; simp at hw; rcases hw with rfl | rfl <;> rfl) (Nat.le_of_ble_eq_true rfl) rfl ?_
  intro F Q E hR
  refine z_ald0 E dX1_note_0 ?_
  refine z1_get_found E dX1_note_1 ?_
  refine z_ist2 E dX1_note_4 ?_
  have L5 : ∀ (fuel : Nat) (i : Nat) (f : Nat → Nat), (i ≤ d) → (∀ k, k < i → f k = N k) → (∀ k, i < k → k ≤ d → f k = N (k - 1)) → (∀ k, i ≤ k → k < d → x < N k) → (i < fuel) → Z1 g F Q 3 (a, b, c, n, X, Y, U, W, V, K, M, d, f) 5 [some (.ref (go g)), some (.int (nI x)), some (.int (nI i))] [] := by
    intro fuel
    induction fuel with
    | zero =>
      intro i f h1 e0 e1 h2 h3
      exfalso; omega
    | succ fuel ih5 =>
      intro i f h1 e0 e1 h2 h3
      have J41 : (i = 0 ∨ N (i - 1) ≤ x) → Z1 g F Q 3 (a, b, c, n, X, Y, U, W, V, K, M, d, f) 41 [some (.ref (go g)), some (.int (nI x)), some (.int (nI i))] [] := by
        intro h5
        have hlo : ∀ k, k < i → N k < x := by
          intro k hk
          have hne : N (i - 1) ≠ x := fun e => hnew ⟨i - 1, by omega, e⟩
          rcases Nat.lt_or_ge k (i - 1) with r | r
          · have := hs.1 k (i - 1) r (by omega); omega
          · have e : k = i - 1 := by omega
            rw [e]; omega
        refine z_ald0 E dX1_note_41 ?_
        refine z1_get_numbers E dX1_note_42 ?_
        refine z_ild2 E dX1_note_45 ?_
        refine z_ild1 E dX1_note_46 ?_
        refine z1_st_numbers E (by omega) dX1_note_47 ?_
        refine z_ald0 E dX1_note_48 ?_
        refine z_dup E rfl dX1_note_49 ?_
        refine z1_get_found E dX1_note_50 ?_
        refine z_ic1 E dX1_note_53 ?_
        refine z_iadd E dX1_note_54 ?_
        refine z1_put_found E dX1_note_55 ?_
        have hI := ins_spec (h := upN f i x) hs hx h1 hlo h2 (fun k hk => by rw [upN_n (by omega)]; exact e0 k hk) upN_s (fun k p q => by rw [upN_n (by omega)]; exact e1 k p q)
        exact hR dX1_note_58 ⟨upN f i x, rfl, hI.1, hI.2⟩
      refine z_ild2 E dX1_note_5 ?_
      refine z_if_le E (by omega) 41 dX1_note_6 (by decide) (fun c6 => ?_) (fun c6 => ?_)
      · exact J41 (Or.inl c6)
      · refine z_ald0 E dX1_note_9 ?_
        refine z1_get_numbers E dX1_note_10 ?_
        refine z_ild2 E dX1_note_13 ?_
        refine z_ic1 E dX1_note_14 ?_
        refine z_isub E (by omega) dX1_note_15 ?_
        refine z1_ld_numbers E (by omega) dX1_note_16 ?_
        refine z_ild1 E dX1_note_17 ?_
        refine z_icmp_le E (show f (i - 1) < 2147483648 by rw [e0 (i - 1) (by omega)]; have := hs.2 (i - 1) (by omega); omega) (by omega) 41 dX1_note_18 (by decide) (fun c18 => ?_) (fun c18 => ?_)
        · exact J41 (Or.inr (by rw [← e0 (i - 1) (by omega)]; exact c18))
        · refine z_ald0 E dX1_note_21 ?_
          refine z1_get_numbers E dX1_note_22 ?_
          refine z_ild2 E dX1_note_25 ?_
          refine z_ald0 E dX1_note_26 ?_
          refine z1_get_numbers E dX1_note_27 ?_
          refine z_ild2 E dX1_note_30 ?_
          refine z_ic1 E dX1_note_31 ?_
          refine z_isub E (by omega) dX1_note_32 ?_
          refine z1_ld_numbers E (by omega) dX1_note_33 ?_
          refine z1_st_numbers E (by omega) dX1_note_34 ?_
          refine z_dec2 E (by omega) dX1_note_35 ?_
          refine z_goto E 5 dX1_note_38 (by decide) ?_
          have e4 : x < N (i - 1) := by rw [← e0 (i - 1) (by omega)]; exact c18
          have e2 : ∀ k, i - 1 < k → k ≤ d → upN f i (f (i - 1)) k = N (k - 1) := by
            intro k p q
            rcases Nat.lt_or_ge i k with r | r
            · rw [upN_n (by omega)]; exact e1 k r q
            · have e : k = i := by omega
              rw [e, upN_s]; exact e0 (i - 1) (by omega)
          have h6 : ∀ k, i - 1 ≤ k → k < d → x < N k := by
            intro k p q
            rcases Nat.lt_or_ge k i with r | r
            · have e : k = i - 1 := by omega
              rw [e]; exact e4
            · exact h2 k r q
          exact ih5 (i - 1) _ (by omega) (fun k p => by rw [upN_n (by omega)]; exact e0 k (by omega)) e2 h6 (by omega)
  exact L5 (d + 1) d N (by omega) (fun _ _ => rfl) (fun k p q => by omega) (fun k _ _ => by omega) (by omega)
end
section
set_option maxHeartbeats 4000000 in
set_option maxRecDepth 100000 in
theorem m1_search (g : GG) (a b c n : Nat) (X Y U W V K M : Nat → Nat) (d : Nat) (N : Nat → Nat) (q : Nat) (ha : a ≤ 15) (hb : b ≤ 15) (hc : c ≤ 15) (hq : q ≤ 7) (hW : ∀ k, W k ≤ 1) : C1I g yX1_search cX1_search 5 .int 5 [.int (nI q)] (a, b, c, n, X, Y, U, W, V, K, M, d, N) (fun r u => ∃ (t n' : Nat) (X' Y' U' W' V' K' M' : Nat → Nat) (d' : Nat) (N' : Nat → Nat), u = (a, b, c, n', X', Y', U', W', V', K', M', d', N') ∧ (∀ k, W' k ≤ 1) ∧ r = nI t ∧ t ≤ 720 ∧ d' ≤ 720 ∧ Srt d' N' ∧ (∀ v, In d' N' v ↔ PM 0 q a b c v) ∧ Cnt q a b c t) := by
  refine CtI.of RX1 [some (.ref (go g)), some (.int (nI q)), none, none, none] (by decide) rfl (by intro w hw; simp at hw; rcases hw with rfl | rfl <;> rfl) (Nat.le_of_ble_eq_true rfl) rfl ?_
  intro F Q E hR
  refine z_ald0 E dX1_search_0 ?_
  refine z_ic0 E dX1_search_1 ?_
  refine z1_put_found E dX1_search_2 ?_
  refine z_ild1 E dX1_search_5 ?_
  refine z_bipush E 6 (by decide) dX1_search_6 ?_
  refine z_icmp_ne E (by omega) (by omega) 95 dX1_search_8 (by decide) (fun c8 => ?_) (fun c8 => ?_)
  · refine z_ald0 E dX1_search_95 ?_
    refine z_ild1 E dX1_search_96 ?_
    refine z1_c_fill E dX1_search_97 (by decide) (Nat.le_of_ble_eq_true rfl) (m1_fill g a b c n X Y U W V K M 0 N q ha hb hc hq c8 hW) (fun u97 h97 => ?_)
    obtain ⟨n97, X97, Y97, U97, W97, V97, K97, rfl, hW97, hT97⟩ := h97
    refine z_ald0 E dX1_search_100 ?_
    refine z_ild1 E dX1_search_101 ?_
    refine z1_H0 E dX1_search_102 dX1_search_103 dX1_search_106 dX1_search_107 ?_
    refine z1_H1 E dX1_search_108 dX1_search_109 dX1_search_112 dX1_search_113 ?_
    refine z1_H2 E dX1_search_114 dX1_search_115 dX1_search_118 dX1_search_119 ?_
    refine z1_c_list E dX1_search_120 (by decide) (Nat.le_of_ble_eq_true rfl) (m1_list g a b c n97 X97 Y97 U97 W97 V97 K97 M 0 N q a b c hq c8 (Bq_own ha hb hc)) (fun u120 h120 => ?_)
    obtain ⟨n120, X120, Y120, U120, rfl, hn120, hL120⟩ := h120
    have hTm : ∀ x y z, Mv q a b c x y z → W97 (ky x y z) = bn (wonB q x y z) := fun x y z h => (hT97 x y z (Reg_mv h)).1
    refine z_ic0 E dX1_search_123 ?_
    refine z_ist2 E dX1_search_124 ?_
    have L125 : ∀ (fuel : Nat) (m d' : Nat) (N' : Nat → Nat) (o3 : Option Value), (m ≤ n120) → (Nts m d' N' X120 Y120 U120 W97) → (n120 < m + fuel) → Z1 g F Q 5 (a, b, c, n120, X120, Y120, U120, W97, V97, K97, M, d', N') 125 [some (.ref (go g)), some (.int (nI q)), some (.int (nI m)), o3, none] [] := by
      intro fuel
      induction fuel with
      | zero =>
        intro m d' N' o3 h1 hS h3
        exfalso; omega
      | succ fuel ih125 =>
        intro m d' N' o3 h1 hS h3
        refine z_ild2 E dX1_search_125 ?_
        refine z_ald0 E dX1_search_126 ?_
        refine z1_get_count E dX1_search_127 ?_
        refine z_icmp_ge E (by omega) (by omega) 202 dX1_search_130 (by decide) (fun c130 => ?_) (fun c130 => ?_)
        · refine z_ald0 E dX1_search_202 ?_
          refine z1_get_count E dX1_search_203 ?_
          have em : m = n120 := by omega
          rw [em] at hS
          exact hR dX1_search_206 ⟨n120, n120, X120, Y120, U120, W97, V97, K97, M, d', N', rfl, hW97, rfl, hn120, by have := hS.2.1; omega, hS.1, Nts.fin c8 ha hb hc hL120 hS hTm, Cnt.of c8 ha hb hc hL120⟩
        · have hbd := hL120.bd ha hb hc c130
          refine z_ald0 E dX1_search_133 ?_
          refine z_ald0 E dX1_search_134 ?_
          refine z1_get_xs E dX1_search_135 ?_
          refine z_ild2 E dX1_search_138 ?_
          refine z1_ld_xs E (by omega) dX1_search_139 ?_
          refine z_ald0 E dX1_search_140 ?_
          refine z1_get_ys E dX1_search_141 ?_
          refine z_ild2 E dX1_search_144 ?_
          refine z1_ld_ys E (by omega) dX1_search_145 ?_
          refine z_ald0 E dX1_search_146 ?_
          refine z1_get_zs E dX1_search_147 ?_
          refine z_ild2 E dX1_search_150 ?_
          refine z1_ld_zs E (by omega) dX1_search_151 ?_
          refine z1_c_key E dX1_search_152 (by decide) (Nat.le_of_ble_eq_true rfl) (m1_key g _ (X120 m) (Y120 m) (U120 m)) (fun r152 u152 h152 => ?_)
          obtain ⟨rfl, rfl⟩ := h152
          refine z_ist3 E dX1_search_155 ?_
          have J196 : ∀ (d2 : Nat) (N2 : Nat → Nat), (Nts (m + 1) d2 N2 X120 Y120 U120 W97) → Z1 g F Q 5 (a, b, c, n120, X120, Y120, U120, W97, V97, K97, M, d2, N2) 196 [some (.ref (go g)), some (.int (nI q)), some (.int (nI m)), some (.int (nI (ky (X120 m) (Y120 m) (U120 m)))), none] [] := by
            intro d2 N2 hS2
            refine z_inc2 E dX1_search_196 ?_
            refine z_goto E 125 dX1_search_199 (by decide) ?_
            exact ih125 (m + 1) _ _ _ (by omega) hS2 (by omega)
          refine z_ald0 E dX1_search_156 ?_
          refine z1_get_win E dX1_search_157 ?_
          refine z_ild3 E dX1_search_160 ?_
          refine z1_ld_win E (ky_lt (show X120 m ≤ 45 ∧ Y120 m ≤ 30 ∧ U120 m ≤ 15 from (Mv_B (Bq_own ha hb hc) ((hL120.2 _ _ _).mpr ⟨m, c130, rfl, rfl, rfl⟩)).bd)) dX1_search_161 ?_
          refine z_if_ne E (Nat.lt_of_le_of_lt (hW97 _) (by decide)) 196 dX1_search_162 (by decide) (fun c162 => ?_) (fun c162 => ?_)
          · exact J196 _ _ (hS.skip c162)
          · refine z_ald0 E dX1_search_165 ?_
            refine z_ald0 E dX1_search_166 ?_
            refine z1_get_xs E dX1_search_167 ?_
            refine z_ild2 E dX1_search_170 ?_
            refine z1_ld_xs E (by omega) dX1_search_171 ?_
            refine z_bipush E 32 (by decide) dX1_search_172 ?_
            refine z_ald0 E dX1_search_174 ?_
            refine z1_get_ys E dX1_search_175 ?_
            refine z_ild2 E dX1_search_178 ?_
            refine z1_ld_ys E (by omega) dX1_search_179 ?_
            refine z_imul E dX1_search_180 ?_
            refine z_iadd E dX1_search_181 ?_
            refine z_sipush E 1024 (by decide) dX1_search_182 ?_
            refine z_ald0 E dX1_search_185 ?_
            refine z1_get_zs E dX1_search_186 ?_
            refine z_ild2 E dX1_search_189 ?_
            refine z1_ld_zs E (by omega) dX1_search_190 ?_
            refine z_imul E dX1_search_191 ?_
            refine z_iadd E dX1_search_192 ?_
            refine z1_c_note E dX1_search_193 (by decide) (Nat.le_of_ble_eq_true rfl) (m1_note g a b c n120 X120 Y120 U120 W97 V97 K97 M d' N' (X120 m + 32 * Y120 m + 1024 * U120 m) hS.1 (by omega) (by have := hS.2.1; omega) (Nts.new ha hb hc hL120 c130 hS)) (fun u193 h193 => ?_)
            obtain ⟨N193, rfl, hs193, hi193⟩ := h193
            exact J196 _ _ (hS.put c162 hs193 hi193)
    exact L125 (n120 + 1) 0 0 N _ (by omega) Nts.zero (by omega)
  · obtain rfl : q = 6 := c8
    have hsg := sgl_le a b
    refine z_ald0 E dX1_search_11 ?_
    refine z1_c_fillLimited E dX1_search_12 (by decide) (Nat.le_of_ble_eq_true rfl) (m1_fillLimited g a b c n X Y U W V K M 0 N) (fun u12 h12 => ?_)
    obtain ⟨M12, rfl, hM⟩ := h12
    refine z_ald0 E dX1_search_15 ?_
    refine z1_c_counters E dX1_search_16 (by decide) (Nat.le_of_ble_eq_true rfl) (m1_counters g a b c n X Y U W V K M12 0 N ha hb) (fun r16 u16 h16 => ?_)
    obtain ⟨rfl, rfl⟩ := h16
    refine z_ist2 E dX1_search_19 ?_
    refine z_ic1 E dX1_search_20 ?_
    refine z_ist3 E dX1_search_21 ?_
    have L22 : ∀ (fuel : Nat) (k d' : Nat) (N' : Nat → Nat) (o4 : Option Value), (1 ≤ k) → (k ≤ sgl a b + 1) → (k ≤ c + 1) → (Nt6 a b k d' N') → (16 < k + fuel) → Z1 g F Q 5 (a, b, c, n, X, Y, U, W, V, K, M12, d', N') 22 [some (.ref (go g)), some (.int (nI 6)), some (.int (nI (sgl a b))), some (.int (nI k)), o4] [] := by
      intro fuel
      induction fuel with
      | zero =>
        intro k d' N' o4 h0 h4 h5 hS h3
        exfalso; omega
      | succ fuel ih22 =>
        intro k d' N' o4 h0 h4 h5 hS h3
        refine z_ild3 E dX1_search_22 ?_
        refine z_ild2 E dX1_search_23 ?_
        refine z_icmp_gt E (by omega) (by omega) 74 dX1_search_24 (by decide) (fun c24 => ?_) (fun c24 => ?_)
        · refine z_ild2 E dX1_search_74 ?_
          refine z1_H2 E dX1_search_75 dX1_search_76 dX1_search_79 dX1_search_80 ?_
          refine z_icmp_ge E (by omega) (by omega) 88 dX1_search_81 (by decide) (fun c81 => ?_) (fun c81 => ?_)
          · refine z1_H2 E dX1_search_88 dX1_search_89 dX1_search_92 dX1_search_93 ?_
            exact hR dX1_search_94 ⟨c, n, X, Y, U, W, V, K, M12, d', N', rfl, hW, rfl, by omega, by have := hS.2.1; omega, hS.1, hS.fin h4 h5 (by omega), Cnt.six (by omega)⟩
          · refine z_ild2 E dX1_search_84 ?_
            refine z_goto E 94 dX1_search_85 (by decide) ?_
            exact hR dX1_search_94 ⟨sgl a b, n, X, Y, U, W, V, K, M12, d', N', rfl, hW, rfl, by omega, by have := hS.2.1; omega, hS.1, hS.fin h4 h5 (by omega), Cnt.six (by omega)⟩
        · refine z_ild3 E dX1_search_27 ?_
          refine z1_H2 E dX1_search_28 dX1_search_29 dX1_search_32 dX1_search_33 ?_
          refine z_icmp_gt E (by omega) (by omega) 74 dX1_search_34 (by decide) (fun c34 => ?_) (fun c34 => ?_)
          · refine z_ild2 E dX1_search_74 ?_
            refine z1_H2 E dX1_search_75 dX1_search_76 dX1_search_79 dX1_search_80 ?_
            refine z_icmp_ge E (by omega) (by omega) 88 dX1_search_81 (by decide) (fun c81 => ?_) (fun c81 => ?_)
            · refine z1_H2 E dX1_search_88 dX1_search_89 dX1_search_92 dX1_search_93 ?_
              exact hR dX1_search_94 ⟨c, n, X, Y, U, W, V, K, M12, d', N', rfl, hW, rfl, by omega, by have := hS.2.1; omega, hS.1, hS.fin h4 h5 (by omega), Cnt.six (by omega)⟩
            · refine z_ild2 E dX1_search_84 ?_
              refine z_goto E 94 dX1_search_85 (by decide) ?_
              exact hR dX1_search_94 ⟨sgl a b, n, X, Y, U, W, V, K, M12, d', N', rfl, hW, rfl, by omega, by have := hS.2.1; omega, hS.1, hS.fin h4 h5 (by omega), Cnt.six (by omega)⟩
          · refine z_ald0 E dX1_search_37 ?_
            refine z_ic2 E dX1_search_38 ?_
            refine z_ild3 E dX1_search_39 ?_
            refine z_imul E dX1_search_40 ?_
            refine z1_c_atMost E dX1_search_41 (by decide) (Nat.le_of_ble_eq_true rfl) (m1_atMost g _ (2 * k) (by omega)) (fun r41 u41 h41 => ?_)
            obtain ⟨rfl, rfl⟩ := h41
            have hal := am_le (2 * k)
            have e9 := hM (sgl a b - k) (am (2 * k)) (by omega) hal
            rw [ww_am] at e9
            refine z_ist4 E dX1_search_44 ?_
            have J68 : ∀ (d2 : Nat) (N2 : Nat → Nat), (Nt6 a b (k + 1) d2 N2) → Z1 g F Q 5 (a, b, c, n, X, Y, U, W, V, K, M12, d2, N2) 68 [some (.ref (go g)), some (.int (nI 6)), some (.int (nI (sgl a b))), some (.int (nI k)), some (.int (nI (am (2 * k))))] [] := by
              intro d2 N2 hS2
              refine z_inc3 E dX1_search_68 ?_
              refine z_goto E 22 dX1_search_71 (by decide) ?_
              exact ih22 (k + 1) _ _ _ (by omega) (by omega) (by omega) hS2 (by omega)
            refine z_ald0 E dX1_search_46 ?_
            refine z1_get_limited E dX1_search_47 ?_
            refine z_bipush E 61 (by decide) dX1_search_50 ?_
            refine z_ild2 E dX1_search_52 ?_
            refine z_ild3 E dX1_search_53 ?_
            refine z_isub E (by omega) dX1_search_54 ?_
            refine z_imul E dX1_search_55 ?_
            refine z_ild4 E dX1_search_56 ?_
            refine z_iadd E dX1_search_58 ?_
            refine z1_ld_limited E (by omega) dX1_search_59 ?_
            refine z_if_ne E (show M12 (61 * (sgl a b - k) + am (2 * k)) < 2147483648 by rw [e9]; exact Nat.lt_of_le_of_lt (bn_le _) (by decide)) 68 dX1_search_60 (by decide) (fun c60 => ?_) (fun c60 => ?_)
            · exact J68 _ _ (hS.skip (bn_1 (fun h => c60 (e9.trans h))))
            · refine z_ald0 E dX1_search_63 ?_
              refine z_ild3 E dX1_search_64 ?_
              refine z1_c_note E dX1_search_65 (by decide) (Nat.le_of_ble_eq_true rfl) (m1_note g a b c n X Y U W V K M12 d' N' k hS.1 (by omega) (by have := hS.2.1; omega) hS.new) (fun u65 h65 => ?_)
              obtain ⟨N65, rfl, hs65, hi65⟩ := h65
              exact J68 _ _ (hS.put h0 (bn_0 (e9.symm.trans c60)) hs65 hi65)
    exact L22 16 1 0 N _ (by omega) (by omega) (by omega) Nt6.zero (by omega)
set_option maxHeartbeats 4000000 in
set_option maxRecDepth 100000 in
theorem m1_won (g : GG) (a b c n : Nat) (X Y U W V K M : Nat → Nat) (d : Nat) (N : Nat → Nat) (ha : a ≤ 15) (hb : b ≤ 15) (hc : c ≤ 15) (hW : ∀ k, W k ≤ 1) (x : Int32) : C1I g yX1_won cX1_won 3 .int 6 [.int x] (a, b, c, n, X, Y, U, W, V, K, M, d, N) (fun r u => (Bad 7 x ∧ StpM a b c u ∧ r = -1) ∨ ∃ q, q ≤ 7 ∧ x = nI q ∧ StpM a b c u ∧ r = nI (bn (wonF q a b c))) := by
  refine CtI.of RX1 [some (.ref (go g)), some (.int x), none] (by decide) rfl (by intro w hw; simp at hw; rcases hw with rfl | rfl <;> rfl) (Nat.le_of_ble_eq_true rfl) rfl ?_
  intro F Q E hR
  refine z_ald0 E dX1_won_0 ?_
  refine z_ild1 E dX1_won_1 ?_
  refine z1_c_noGame E dX1_won_2 (by decide) (Nat.le_of_ble_eq_true rfl) (m1_noGame g _ _) (fun r2 u2 h2 => ?_)
  obtain ⟨rfl, q2, hq2, rfl, hb2, hg2⟩ := h2
  refine z_if_eq E (show q2 < 2147483648 by omega) 10 dX1_won_5 (by decide) (fun c5 => ?_) (fun c5 => ?_)
  · obtain ⟨q, hq, rfl⟩ := hg2 c5
    refine z_ald0 E dX1_won_10 ?_
    refine z_ild1 E dX1_won_11 ?_
    refine z1_c_search E dX1_won_12 (by decide) (Nat.le_of_ble_eq_true rfl) (m1_search g a b c n X Y U W V K M d N q ha hb hc hq hW) (fun r12 u12 h12 => ?_)
    obtain ⟨t, n', X', Y', U', W', V', K', M', d', N', rfl, hW', rfl, ht, hd, hs', hm', hC⟩ := h12
    refine z_ist2 E dX1_won_15 ?_
    refine z_ald0 E dX1_won_16 ?_
    refine z1_get_found E dX1_won_17 ?_
    refine z_if_gt E (by omega) 32 dX1_won_20 (by decide) (fun c20 => ?_) (fun c20 => ?_)
    · refine z_ic1 E dX1_won_32 ?_
      refine z_goto E 37 dX1_won_33 (by decide) ?_
      exact hR dX1_won_37 (Or.inr ⟨q, hq, rfl, ⟨n', X', Y', U', W', V', K', M', d', N', rfl, hW'⟩, pT ((found_win hq ha hb hc hm' hC).mpr (Or.inl c20))⟩)
    · refine z_ild1 E dX1_won_23 ?_
      refine z_ic1 E dX1_won_24 ?_
      refine z_icmp_ne E (by omega) (by omega) 36 dX1_won_25 (by decide) (fun c25 => ?_) (fun c25 => ?_)
      · refine z_ic0 E dX1_won_36 ?_
        exact hR dX1_won_37 (Or.inr ⟨q, hq, rfl, ⟨n', X', Y', U', W', V', K', M', d', N', rfl, hW'⟩, pF (by cases e : wonF q a b c with | false => rfl | true => (have := (found_win hq ha hb hc hm' hC).mp e; omega))⟩)
      · refine z_ild2 E dX1_won_28 ?_
        refine z_if_ne E (by omega) 36 dX1_won_29 (by decide) (fun c29 => ?_) (fun c29 => ?_)
        · refine z_ic0 E dX1_won_36 ?_
          exact hR dX1_won_37 (Or.inr ⟨q, hq, rfl, ⟨n', X', Y', U', W', V', K', M', d', N', rfl, hW'⟩, pF (by cases e : wonF q a b c with | false => rfl | true => (have := (found_win hq ha hb hc hm' hC).mp e; omega))⟩)
        · refine z_ic1 E dX1_won_32 ?_
          refine z_goto E 37 dX1_won_33 (by decide) ?_
          exact hR dX1_won_37 (Or.inr ⟨q, hq, rfl, ⟨n', X', Y', U', W', V', K', M', d', N', rfl, hW'⟩, pT ((found_win hq ha hb hc hm' hC).mpr (Or.inr ⟨c25, c29⟩))⟩)
  · refine z_icm1 E dX1_won_8 ?_
    exact hR dX1_won_9 (Or.inl ⟨hb2 c5, ⟨n, X, Y, U, W, V, K, M, d, N, rfl, hW⟩, rfl⟩)
set_option maxHeartbeats 4000000 in
set_option maxRecDepth 100000 in
theorem m1_moves (g : GG) (a b c n : Nat) (X Y U W V K M : Nat → Nat) (d : Nat) (N : Nat → Nat) (ha : a ≤ 15) (hb : b ≤ 15) (hc : c ≤ 15) (hW : ∀ k, W k ≤ 1) (x : Int32) : C1I g yX1_moves cX1_moves 2 .int 6 [.int x] (a, b, c, n, X, Y, U, W, V, K, M, d, N) (fun r u => (Bad 7 x ∧ StpM a b c u ∧ r = -1) ∨ ∃ q t, q ≤ 7 ∧ x = nI q ∧ StpM a b c u ∧ Cnt q a b c t ∧ r = nI t) := by
  refine CtI.of RX1 [some (.ref (go g)), some (.int x)] (by decide) rfl (by intro w hw; simp at hw; rcases hw with rfl | rfl <;> rfl) (Nat.le_of_ble_eq_true rfl) rfl ?_
  intro F Q E hR
  refine z_ald0 E dX1_moves_0 ?_
  refine z_ild1 E dX1_moves_1 ?_
  refine z1_c_noGame E dX1_moves_2 (by decide) (Nat.le_of_ble_eq_true rfl) (m1_noGame g _ _) (fun r2 u2 h2 => ?_)
  obtain ⟨rfl, q2, hq2, rfl, hb2, hg2⟩ := h2
  refine z_if_eq E (show q2 < 2147483648 by omega) 12 dX1_moves_5 (by decide) (fun c5 => ?_) (fun c5 => ?_)
  · obtain ⟨q, hq, rfl⟩ := hg2 c5
    refine z_ald0 E dX1_moves_12 ?_
    refine z_ild1 E dX1_moves_13 ?_
    refine z1_c_search E dX1_moves_14 (by decide) (Nat.le_of_ble_eq_true rfl) (m1_search g a b c n X Y U W V K M d N q ha hb hc hq hW) (fun r14 u14 h14 => ?_)
    obtain ⟨t, n', X', Y', U', W', V', K', M', d', N', rfl, hW', rfl, ht, hd, hs', hm', hC⟩ := h14
    exact hR dX1_moves_17 (Or.inr ⟨q, t, hq, rfl, ⟨n', X', Y', U', W', V', K', M', d', N', rfl, hW'⟩, hC, rfl⟩)
  · refine z_icm1 E dX1_moves_8 ?_
    refine z_goto E 17 dX1_moves_9 (by decide) ?_
    exact hR dX1_moves_17 (Or.inl ⟨hb2 c5, ⟨n, X, Y, U, W, V, K, M, d, N, rfl, hW⟩, rfl⟩)
set_option maxHeartbeats 4000000 in
set_option maxRecDepth 100000 in
theorem m1_winning (g : GG) (a b c n : Nat) (X Y U W V K M : Nat → Nat) (d : Nat) (N : Nat → Nat) (ha : a ≤ 15) (hb : b ≤ 15) (hc : c ≤ 15) (hW : ∀ k, W k ≤ 1) (x : Int32) : C1I g yX1_winning cX1_winning 2 .int 6 [.int x] (a, b, c, n, X, Y, U, W, V, K, M, d, N) (fun r u => (Bad 7 x ∧ StpM a b c u ∧ r = -1) ∨ ∃ (q d' : Nat) (N' : Nat → Nat), q ≤ 7 ∧ x = nI q ∧ StpM a b c u ∧ Srt d' N' ∧ (∀ v, In d' N' v ↔ PM 0 q a b c v) ∧ r = nI d') := by
  refine CtI.of RX1 [some (.ref (go g)), some (.int x)] (by decide) rfl (by intro w hw; simp at hw; rcases hw with rfl | rfl <;> rfl) (Nat.le_of_ble_eq_true rfl) rfl ?_
  intro F Q E hR
  refine z_ald0 E dX1_winning_0 ?_
  refine z_ild1 E dX1_winning_1 ?_
  refine z1_c_noGame E dX1_winning_2 (by decide) (Nat.le_of_ble_eq_true rfl) (m1_noGame g _ _) (fun r2 u2 h2 => ?_)
  obtain ⟨rfl, q2, hq2, rfl, hb2, hg2⟩ := h2
  refine z_if_eq E (show q2 < 2147483648 by omega) 10 dX1_winning_5 (by decide) (fun c5 => ?_) (fun c5 => ?_)
  · obtain ⟨q, hq, rfl⟩ := hg2 c5
    refine z_ald0 E dX1_winning_10 ?_
    refine z_ild1 E dX1_winning_11 ?_
    refine z1_c_search E dX1_winning_12 (by decide) (Nat.le_of_ble_eq_true rfl) (m1_search g a b c n X Y U W V K M d N q ha hb hc hq hW) (fun r12 u12 h12 => ?_)
    obtain ⟨t, n', X', Y', U', W', V', K', M', d', N', rfl, hW', rfl, ht, hd, hs', hm', hC⟩ := h12
    refine z_pop E dX1_winning_15 ?_
    refine z_ald0 E dX1_winning_16 ?_
    refine z1_get_found E dX1_winning_17 ?_
    exact hR dX1_winning_20 (Or.inr ⟨q, d', N', hq, rfl, ⟨n', X', Y', U', W', V', K', M', d', N', rfl, hW'⟩, hs', hm', rfl⟩)
  · refine z_icm1 E dX1_winning_8 ?_
    exact hR dX1_winning_9 (Or.inl ⟨hb2 c5, ⟨n, X, Y, U, W, V, K, M, d, N, rfl, hW⟩, rfl⟩)
set_option maxHeartbeats 4000000 in
set_option maxRecDepth 100000 in
theorem m1_winningMove (g : GG) (a b c n : Nat) (X Y U W V K M : Nat → Nat) (d : Nat) (N : Nat → Nat) (ha : a ≤ 15) (hb : b ≤ 15) (hc : c ≤ 15) (hW : ∀ k, W k ≤ 1) (x i : Int32) : C1I g yX1_winningMove cX1_winningMove 3 .int 6 [.int x, .int i] (a, b, c, n, X, Y, U, W, V, K, M, d, N) (fun r u => (Bad 7 x ∧ StpM a b c u ∧ r = -1) ∨ ∃ (q d' : Nat) (N' : Nat → Nat), q ≤ 7 ∧ x = nI q ∧ StpM a b c u ∧ Srt d' N' ∧ (∀ v, In d' N' v ↔ PM 0 q a b c v) ∧ (((i < 0 ∨ ¬ i < nI d') ∧ r = -4) ∨ ∃ j, j < d' ∧ i = nI j ∧ r = nI (N' j))) := by
  refine CtI.of RX1 [some (.ref (go g)), some (.int x), some (.int i)] (by decide) rfl (by intro w hw; simp at hw; rcases hw with rfl | rfl | rfl <;> rfl) (Nat.le_of_ble_eq_true rfl) rfl ?_
  intro F Q E hR
  refine z_ald0 E dX1_winningMove_0 ?_
  refine z_ild1 E dX1_winningMove_1 ?_
  refine z1_c_noGame E dX1_winningMove_2 (by decide) (Nat.le_of_ble_eq_true rfl) (m1_noGame g _ _) (fun r2 u2 h2 => ?_)
  obtain ⟨rfl, q2, hq2, rfl, hb2, hg2⟩ := h2
  refine z_if_eq E (show q2 < 2147483648 by omega) 10 dX1_winningMove_5 (by decide) (fun c5 => ?_) (fun c5 => ?_)
  · obtain ⟨q, hq, rfl⟩ := hg2 c5
    refine z_ald0 E dX1_winningMove_10 ?_
    refine z_ild1 E dX1_winningMove_11 ?_
    refine z1_c_search E dX1_winningMove_12 (by decide) (Nat.le_of_ble_eq_true rfl) (m1_search g a b c n X Y U W V K M d N q ha hb hc hq hW) (fun r12 u12 h12 => ?_)
    obtain ⟨t, n', X', Y', U', W', V', K', M', d', N', rfl, hW', rfl, ht, hd, hs', hm', hC⟩ := h12
    refine z_pop E dX1_winningMove_15 ?_
    refine z_ild2 E dX1_winningMove_16 ?_
    refine zr_if_lt E 28 dX1_winningMove_17 (by decide) (fun c17 => ?_) (fun c17 => ?_)
    · refine z_bipushR E (-4) (by decide) dX1_winningMove_28 ?_
      refine z_goto E 39 dX1_winningMove_30 (by decide) ?_
      exact hR dX1_winningMove_39 (Or.inr ⟨q, d', N', hq, rfl, ⟨n', X', Y', U', W', V', K', M', d', N', rfl, hW'⟩, hs', hm', Or.inl ⟨Or.inl c17, rfl⟩⟩)
    · refine z_ild2 E dX1_winningMove_20 ?_
      refine z_ald0 E dX1_winningMove_21 ?_
      refine z1_get_found E dX1_winningMove_22 ?_
      refine zr_icmp_lt E 33 dX1_winningMove_25 (by decide) (fun c25 => ?_) (fun c25 => ?_)
      · obtain ⟨j, hj, rfl⟩ := idxN (by omega) c17 c25
        refine z_ald0 E dX1_winningMove_33 ?_
        refine z1_get_numbers E dX1_winningMove_34 ?_
        refine z_ild2 E dX1_winningMove_37 ?_
        refine z1_ld_numbers E (by omega) dX1_winningMove_38 ?_
        exact hR dX1_winningMove_39 (Or.inr ⟨q, d', N', hq, rfl, ⟨n', X', Y', U', W', V', K', M', d', N', rfl, hW'⟩, hs', hm', Or.inr ⟨j, hj, rfl, rfl⟩⟩)
      · refine z_bipushR E (-4) (by decide) dX1_winningMove_28 ?_
        refine z_goto E 39 dX1_winningMove_30 (by decide) ?_
        exact hR dX1_winningMove_39 (Or.inr ⟨q, d', N', hq, rfl, ⟨n', X', Y', U', W', V', K', M', d', N', rfl, hW'⟩, hs', hm', Or.inl ⟨Or.inr c25, rfl⟩⟩)
  · refine z_icm1 E dX1_winningMove_8 ?_
    exact hR dX1_winningMove_9 (Or.inl ⟨hb2 c5, ⟨n, X, Y, U, W, V, K, M, d, N, rfl, hW⟩, rfl⟩)
set_option maxHeartbeats 4000000 in
set_option maxRecDepth 100000 in
theorem m1_value (g : GG) (a b c n : Nat) (X Y U W V K M : Nat → Nat) (d : Nat) (N : Nat → Nat) (ha : a ≤ 15) (hb : b ≤ 15) (hc : c ≤ 15) (hW : ∀ k, W k ≤ 1) (x : Int32) : C1I g yX1_value cX1_value 2 .int 5 [.int x] (a, b, c, n, X, Y, U, W, V, K, M, d, N) (fun r u => StpM a b c u ∧ ((¬ x = 0 ∧ ¬ x = nI 7 ∧ r = -1) ∨ (x = 0 ∧ r = nI (a ^^^ b ^^^ c)) ∨ (x = nI 7 ∧ r = nI ((a ^^^ b ^^^ c) &&& 3)))) := by
  refine CtI.of RX1 [some (.ref (go g)), some (.int x)] (by decide) rfl (by intro w hw; simp at hw; rcases hw with rfl | rfl <;> rfl) (Nat.le_of_ble_eq_true rfl) rfl ?_
  intro F Q E hR
  refine z_ild1 E dX1_value_0 ?_
  refine zr_if_eq E 12 dX1_value_1 (by decide) (fun c1 => ?_) (fun c1 => ?_)
  · obtain rfl : x = nI 0 := c1
    refine z_ald0 E dX1_value_12 ?_
    refine z_ild1 E dX1_value_13 ?_
    refine z1_c_fill E dX1_value_14 (by decide) (Nat.le_of_ble_eq_true rfl) (m1_fill g a b c n X Y U W V K M d N 0 ha hb hc (by decide) (by decide) hW) (fun u14 h14 => ?_)
    obtain ⟨n', X', Y', U', W', V', K', rfl, hW', hT'⟩ := h14
    have eo := (hT' a b c Reg_own).2
    refine z_ald0 E dX1_value_17 ?_
    refine z1_get_values E dX1_value_18 ?_
    refine z_ald0 E dX1_value_21 ?_
    refine z1_H0 E dX1_value_22 dX1_value_23 dX1_value_26 dX1_value_27 ?_
    refine z1_H1 E dX1_value_28 dX1_value_29 dX1_value_32 dX1_value_33 ?_
    refine z1_H2 E dX1_value_34 dX1_value_35 dX1_value_38 dX1_value_39 ?_
    refine z1_c_key E dX1_value_40 (by decide) (Nat.le_of_ble_eq_true rfl) (m1_key g _ a b c) (fun r40 u40 h40 => ?_)
    obtain ⟨rfl, rfl⟩ := h40
    refine z1_ld_values E (by omega) dX1_value_43 ?_
    exact hR dX1_value_44 ⟨⟨n', X', Y', U', W', V', K', M, d, N, rfl, hW'⟩, Or.inr (Or.inl ⟨rfl, by rw [eo]; rfl⟩)⟩
  · refine z_ild1 E dX1_value_4 ?_
    refine z_bipush E 7 (by decide) dX1_value_5 ?_
    refine zr_icmp_eq E 12 dX1_value_7 (by decide) (fun c7 => ?_) (fun c7 => ?_)
    · obtain rfl : x = nI 7 := c7
      refine z_ald0 E dX1_value_12 ?_
      refine z_ild1 E dX1_value_13 ?_
      refine z1_c_fill E dX1_value_14 (by decide) (Nat.le_of_ble_eq_true rfl) (m1_fill g a b c n X Y U W V K M d N 7 ha hb hc (by decide) (by decide) hW) (fun u14 h14 => ?_)
      obtain ⟨n', X', Y', U', W', V', K', rfl, hW', hT'⟩ := h14
      have eo := (hT' a b c Reg_own).2
      refine z_ald0 E dX1_value_17 ?_
      refine z1_get_values E dX1_value_18 ?_
      refine z_ald0 E dX1_value_21 ?_
      refine z1_H0 E dX1_value_22 dX1_value_23 dX1_value_26 dX1_value_27 ?_
      refine z1_H1 E dX1_value_28 dX1_value_29 dX1_value_32 dX1_value_33 ?_
      refine z1_H2 E dX1_value_34 dX1_value_35 dX1_value_38 dX1_value_39 ?_
      refine z1_c_key E dX1_value_40 (by decide) (Nat.le_of_ble_eq_true rfl) (m1_key g _ a b c) (fun r40 u40 h40 => ?_)
      obtain ⟨rfl, rfl⟩ := h40
      refine z1_ld_values E (by omega) dX1_value_43 ?_
      exact hR dX1_value_44 ⟨⟨n', X', Y', U', W', V', K', M, d, N, rfl, hW'⟩, Or.inr (Or.inr ⟨rfl, by rw [eo]; rfl⟩)⟩
    · refine z_icm1 E dX1_value_10 ?_
      exact hR dX1_value_11 ⟨⟨n, X, Y, U, W, V, K, M, d, N, rfl, hW⟩, Or.inl ⟨c1, c7, rfl⟩⟩
set_option maxHeartbeats 4000000 in
set_option maxRecDepth 100000 in
theorem m1_play (g : GG) (a b c n : Nat) (X Y U W V K M : Nat → Nat) (d : Nat) (N : Nat → Nat) (ha : a ≤ 15) (hb : b ≤ 15) (hc : c ≤ 15) (hW : ∀ k, W k ≤ 1) (x i : Int32) : C1I g yX1_play cX1_play 3 .int 7 [.int x, .int i] (a, b, c, n, X, Y, U, W, V, K, M, d, N) (fun r u => (Bad 7 x ∧ StpM a b c u ∧ r = -1) ∨ (∃ q, q ≤ 7 ∧ x = nI q ∧ (q = 3 ∨ q = 6) ∧ StpM a b c u ∧ r = -1) ∨ ∃ (q d' : Nat) (N' : Nat → Nat), q ≤ 7 ∧ q ≠ 3 ∧ q ≠ 6 ∧ x = nI q ∧ Srt d' N' ∧ (∀ v, In d' N' v ↔ PM 0 q a b c v) ∧ (((i < 0 ∨ ¬ i < nI d') ∧ r = -4 ∧ StpM a b c u) ∨ ∃ j, j < d' ∧ i = nI j ∧ StpM (N' j % 32) (N' j / 32 % 32) (N' j / 1024) u ∧ r = nI (bn (wonF q (N' j % 32) (N' j / 32 % 32) (N' j / 1024))))) := by
  refine CtI.of RX1 [some (.ref (go g)), some (.int x), some (.int i)] (by decide) rfl (by intro w hw; simp at hw; rcases hw with rfl | rfl | rfl <;> rfl) (Nat.le_of_ble_eq_true rfl) rfl ?_
  intro F Q E hR
  refine z_ald0 E dX1_play_0 ?_
  refine z_ild1 E dX1_play_1 ?_
  refine z1_c_noGame E dX1_play_2 (by decide) (Nat.le_of_ble_eq_true rfl) (m1_noGame g _ _) (fun r2 u2 h2 => ?_)
  obtain ⟨rfl, q2, hq2, rfl, hb2, hg2⟩ := h2
  refine z_if_ne E (show q2 < 2147483648 by omega) 19 dX1_play_5 (by decide) (fun c5 => ?_) (fun c5 => ?_)
  · refine z_icm1 E dX1_play_19 ?_
    exact hR dX1_play_20 (Or.inl ⟨hb2 c5, ⟨n, X, Y, U, W, V, K, M, d, N, rfl, hW⟩, rfl⟩)
  · obtain ⟨q, hq, rfl⟩ := hg2 c5
    refine z_ild1 E dX1_play_8 ?_
    refine z_ic3 E dX1_play_9 ?_
    refine z_icmp_eq E (by omega) (by omega) 19 dX1_play_10 (by decide) (fun c10 => ?_) (fun c10 => ?_)
    · refine z_icm1 E dX1_play_19 ?_
      exact hR dX1_play_20 (Or.inr (Or.inl ⟨q, hq, rfl, by omega, ⟨n, X, Y, U, W, V, K, M, d, N, rfl, hW⟩, rfl⟩))
    · refine z_ild1 E dX1_play_13 ?_
      refine z_bipush E 6 (by decide) dX1_play_14 ?_
      refine z_icmp_ne E (by omega) (by omega) 21 dX1_play_16 (by decide) (fun c16 => ?_) (fun c16 => ?_)
      · refine z_ald0 E dX1_play_21 ?_
        refine z_ild1 E dX1_play_22 ?_
        refine z1_c_search E dX1_play_23 (by decide) (Nat.le_of_ble_eq_true rfl) (m1_search g a b c n X Y U W V K M d N q ha hb hc hq hW) (fun r23 u23 h23 => ?_)
        obtain ⟨t, n', X', Y', U', W', V', K', M', d', N', rfl, hW', rfl, ht, hd, hs', hm', hC⟩ := h23
        refine z_pop E dX1_play_26 ?_
        refine z_ild2 E dX1_play_27 ?_
        refine zr_if_lt E 39 dX1_play_28 (by decide) (fun c28 => ?_) (fun c28 => ?_)
        · refine z_bipushR E (-4) (by decide) dX1_play_39 ?_
          exact hR dX1_play_41 (Or.inr (Or.inr ⟨q, d', N', hq, by omega, by omega, rfl, hs', hm', Or.inl ⟨Or.inl c28, rfl, ⟨n', X', Y', U', W', V', K', M', d', N', rfl, hW'⟩⟩⟩))
        · refine z_ild2 E dX1_play_31 ?_
          refine z_ald0 E dX1_play_32 ?_
          refine z1_get_found E dX1_play_33 ?_
          refine zr_icmp_lt E 42 dX1_play_36 (by decide) (fun c36 => ?_) (fun c36 => ?_)
          · obtain ⟨j, hj, rfl⟩ := idxN (by omega) c28 c36
            have hfj := hs'.2 j hj
            have hpm := (hm' (N' j)).mp ⟨j, hj, rfl⟩
            unfold PM at hpm
            rw [if_neg (by omega)] at hpm
            have hle := Mv_le (by omega) hpm.1
            refine z_ald0 E dX1_play_42 ?_
            refine z1_get_heaps E dX1_play_43 ?_
            refine z_ic0 E dX1_play_46 ?_
            refine z_ald0 E dX1_play_47 ?_
            refine z1_get_numbers E dX1_play_48 ?_
            refine z_ild2 E dX1_play_51 ?_
            refine z1_ld_numbers E (by omega) dX1_play_52 ?_
            refine z_bipush E 32 (by decide) dX1_play_53 ?_
            refine z_irem E (by omega) (by omega) (by omega) dX1_play_55 ?_
            refine z1_hset0 E dX1_play_56 ?_
            refine z_ald0 E dX1_play_57 ?_
            refine z1_get_heaps E dX1_play_58 ?_
            refine z_ic1 E dX1_play_61 ?_
            refine z_ald0 E dX1_play_62 ?_
            refine z1_get_numbers E dX1_play_63 ?_
            refine z_ild2 E dX1_play_66 ?_
            refine z1_ld_numbers E (by omega) dX1_play_67 ?_
            refine z_bipush E 32 (by decide) dX1_play_68 ?_
            refine z_idiv E (by omega) (by omega) (by omega) dX1_play_70 ?_
            refine z_bipush E 32 (by decide) dX1_play_71 ?_
            refine z_irem E (by omega) (by omega) (by omega) dX1_play_73 ?_
            refine z1_hset1 E dX1_play_74 ?_
            refine z_ald0 E dX1_play_75 ?_
            refine z1_get_heaps E dX1_play_76 ?_
            refine z_ic2 E dX1_play_79 ?_
            refine z_ald0 E dX1_play_80 ?_
            refine z1_get_numbers E dX1_play_81 ?_
            refine z_ild2 E dX1_play_84 ?_
            refine z1_ld_numbers E (by omega) dX1_play_85 ?_
            refine z_sipush E 1024 (by decide) dX1_play_86 ?_
            refine z_idiv E (by omega) (by omega) (by omega) dX1_play_89 ?_
            refine z1_hset2 E dX1_play_90 ?_
            refine z_ald0 E dX1_play_91 ?_
            refine z_ild1 E dX1_play_92 ?_
            refine z1_c_won E dX1_play_93 (by decide) (Nat.le_of_ble_eq_true rfl) (m1_won g _ _ _ n' X' Y' U' W' V' K' M' d' N' (by omega) (by omega) (by omega) hW' (nI q)) (fun r93 u93 h93 => ?_)
            obtain ⟨q9, hq9, e9, hS9, rfl⟩ := h93.resolve_left (fun h => notBad (by decide) hq h.1)
            obtain rfl := (nI_eq (by omega) (by omega)).mp e9
            exact hR dX1_play_96 (Or.inr (Or.inr ⟨q, d', N', hq, by omega, by omega, rfl, hs', hm', Or.inr ⟨j, hj, rfl, hS9, rfl⟩⟩))
          · refine z_bipushR E (-4) (by decide) dX1_play_39 ?_
            exact hR dX1_play_41 (Or.inr (Or.inr ⟨q, d', N', hq, by omega, by omega, rfl, hs', hm', Or.inl ⟨Or.inr c36, rfl, ⟨n', X', Y', U', W', V', K', M', d', N', rfl, hW'⟩⟩⟩))
      · refine z_icm1 E dX1_play_19 ?_
        exact hR dX1_play_20 (Or.inr (Or.inl ⟨q, hq, rfl, by omega, ⟨n, X, Y, U, W, V, K, M, d, N, rfl, hW⟩, rfl⟩))
end
section
set_option maxRecDepth 100000
/-! THE TWO ANSWERS ARE THE SAME -/
theorem nI_inj {a b m : Nat} (ha : a ≤ m) (hb : b ≤ m) (hm : m < 2147483648) (h : nI a = nI b) : a = b := (nI_eq (by omega) (by omega)).mp h
theorem Srt.ge {n : Nat} {f : Nat → Nat} (h : Srt n f) : ∀ i, i < n → i ≤ f i := by
  intro i
  induction i with
  | zero => intro _; exact Nat.zero_le _
  | succ i ih =>
    intro hi
    have h1 := ih (by omega)
    have h2 := h.1 i (i + 1) (by omega) hi
    omega
theorem Srt.bd {n : Nat} {f : Nat → Nat} (h : Srt n f) : n ≤ 65536 := by
  rcases Nat.eq_zero_or_pos n with e | e
  · omega
  · have h1 := h.ge (n - 1) (by omega)
    have h2 := h.2 (n - 1) (by omega)
    omega
theorem out_in {i : Int32} {n j : Nat} (hn : n ≤ 65536) (h : i < 0 ∨ ¬ i < nI n) (hj : j < n) (e : i = nI j) : False := by
  subst e
  rcases h with h | h
  · exact nI_pos (show j < 2 ^ 31 by omega) h
  · exact h ((nI_ltI (show j < 2 ^ 31 by omega) (show n < 2 ^ 31 by omega)).mpr hj)
def Agr (r0 r1 : Int32) (v0 : S0) (v1 : S1) : Prop := r0 = r1 ∧ ∃ (a b c n : Nat) (mv : Nat → Nat), v0 = (a, b, c, n, mv) ∧ a ≤ 15 ∧ b ≤ 15 ∧ c ≤ 15 ∧ StpM a b c v1
section AGREE
variable {a b c n : Nat} {mv : Nat → Nat} {r0 r1 x i : Int32} {v0 : S0} {v1 : S1}
theorem bad_no {q m : Nat} (hm : m < 2147483648) (hB : Bad m x) (hx : x = nI q) (hq : q ≤ m) : False := by
  subst hx
  exact notBad hm hq hB
theorem hN_le (ha : a ≤ 15) (hb : b ≤ 15) (hc : c ≤ 15) (j : Nat) {v t : Nat} (hv : v ≤ 15) : upN (hN a b c) j v t ≤ 15 := by
  unfold upN
  split
  · exact hv
  · match t with
    | 0 => exact ha
    | 1 => exact hb
    | 2 => exact hc
    | t + 3 => exact Nat.zero_le _
theorem ag_heap {n1 d1 : Nat} {X Y U W V K M N : Nat → Nat} (hW : ∀ k, W k ≤ 1) (ha : a ≤ 15) (hb : b ≤ 15) (hc : c ≤ 15)
    (h0 : (r0 = -1 ∧ v0 = (a, b, c, n, mv) ∧ (Bad 2 x ∨ Bad 15 i)) ∨ ∃ j v : Nat, j ≤ 2 ∧ v ≤ 15 ∧ x = nI j ∧ i = nI v ∧ r0 = nI (hN a b c j) ∧ v0 = (upN (hN a b c) j v 0, upN (hN a b c) j v 1, upN (hN a b c) j v 2, n, mv))
    (h1 : (r1 = -1 ∧ v1 = (a, b, c, n1, X, Y, U, W, V, K, M, d1, N) ∧ (Bad 2 x ∨ Bad 15 i)) ∨ ∃ j v : Nat, j ≤ 2 ∧ v ≤ 15 ∧ x = nI j ∧ i = nI v ∧ r1 = nI (hN a b c j) ∧ v1 = (upN (hN a b c) j v 0, upN (hN a b c) j v 1, upN (hN a b c) j v 2, n1, X, Y, U, W, V, K, M, d1, N)) : Agr r0 r1 v0 v1 := by
  rcases h0 with ⟨hr, hv, hB⟩ | ⟨j, v, hj, hv15, hx, hi, hr, hv⟩ <;> rcases h1 with ⟨hr', hv', hB'⟩ | ⟨j', v', hj', hv15', hx', hi', hr', hv'⟩
  · exact ⟨hr.trans hr'.symm, a, b, c, n, mv, hv, ha, hb, hc, n1, X, Y, U, W, V, K, M, d1, N, hv', hW⟩
  · rcases hB with hB | hB
    · exact (bad_no (by decide) hB hx' hj').elim
    · exact (bad_no (by decide) hB hi' hv15').elim
  · rcases hB' with hB | hB
    · exact (bad_no (by decide) hB hx hj).elim
    · exact (bad_no (by decide) hB hi hv15).elim
  · have e1 : j = j' := nI_inj hj hj' (by decide) (hx.symm.trans hx')
    have e2 : v = v' := nI_inj hv15 hv15' (by decide) (hi.symm.trans hi')
    subst e1 e2
    exact ⟨hr.trans hr'.symm, _, _, _, n, mv, hv, hN_le ha hb hc j hv15, hN_le ha hb hc j hv15, hN_le ha hb hc j hv15, n1, X, Y, U, W, V, K, M, d1, N, hv', hW⟩
theorem ag_has {n1 d1 : Nat} {X Y U W V K M N : Nat → Nat} (hW : ∀ k, W k ≤ 1) (ha : a ≤ 15) (hb : b ≤ 15) (hc : c ≤ 15)
    (h0 : v0 = (a, b, c, n, mv) ∧ ((r0 = -1 ∧ Bad 2 x) ∨ ∃ j : Nat, j ≤ 2 ∧ x = nI j ∧ r0 = nI (hN a b c j)))
    (h1 : v1 = (a, b, c, n1, X, Y, U, W, V, K, M, d1, N) ∧ ((r1 = -1 ∧ Bad 2 x) ∨ ∃ j : Nat, j ≤ 2 ∧ x = nI j ∧ r1 = nI (hN a b c j))) : Agr r0 r1 v0 v1 := by
  refine ⟨?_, a, b, c, n, mv, h0.1, ha, hb, hc, n1, X, Y, U, W, V, K, M, d1, N, h1.1, hW⟩
  rcases h0.2 with ⟨hr, hB⟩ | ⟨j, hj, hx, hr⟩ <;> rcases h1.2 with ⟨hr', hB'⟩ | ⟨j', hj', hx', hr'⟩
  · exact hr.trans hr'.symm
  · exact (bad_no (by decide) hB hx' hj').elim
  · exact (bad_no (by decide) hB' hx hj).elim
  · have e1 : j = j' := nI_inj hj hj' (by decide) (hx.symm.trans hx')
    subst e1
    exact hr.trans hr'.symm
theorem ag_won (ha : a ≤ 15) (hb : b ≤ 15) (hc : c ≤ 15) (h0 : (Bad 7 x ∧ v0 = (a, b, c, n, mv) ∧ r0 = -1) ∨ ∃ q, q ≤ 7 ∧ x = nI q ∧ v0 = (a, b, c, n, mv) ∧ r0 = nI (bn (wonF q a b c)))
    (h1 : (Bad 7 x ∧ StpM a b c v1 ∧ r1 = -1) ∨ ∃ q, q ≤ 7 ∧ x = nI q ∧ StpM a b c v1 ∧ r1 = nI (bn (wonF q a b c))) : Agr r0 r1 v0 v1 := by
  rcases h0 with ⟨hB, hv, hr⟩ | ⟨q, hq, hx, hv, hr⟩ <;> rcases h1 with ⟨hB', hs, hr'⟩ | ⟨q', hq', hx', hs, hr'⟩
  · exact ⟨hr.trans hr'.symm, a, b, c, n, mv, hv, ha, hb, hc, hs⟩
  · exact (bad_no (by decide) hB hx' hq').elim
  · exact (bad_no (by decide) hB' hx hq).elim
  · have e : q = q' := nI_inj hq hq' (by decide) (hx.symm.trans hx')
    subst e
    exact ⟨hr.trans hr'.symm, a, b, c, n, mv, hv, ha, hb, hc, hs⟩
theorem ag_moves (ha : a ≤ 15) (hb : b ≤ 15) (hc : c ≤ 15) (h0 : (Bad 7 x ∧ v0 = (a, b, c, n, mv) ∧ r0 = -1) ∨ ∃ (q n' : Nat) (f' : Nat → Nat), q ≤ 7 ∧ x = nI q ∧ v0 = (a, b, c, n', f') ∧ Srt n' f' ∧ (∀ v, In n' f' v ↔ PM 1 q a b c v) ∧ r0 = nI n')
    (h1 : (Bad 7 x ∧ StpM a b c v1 ∧ r1 = -1) ∨ ∃ q t, q ≤ 7 ∧ x = nI q ∧ StpM a b c v1 ∧ Cnt q a b c t ∧ r1 = nI t) : Agr r0 r1 v0 v1 := by
  rcases h0 with ⟨hB, hv, hr⟩ | ⟨q, n', f', hq, hx, hv, hs0, hm0, hr⟩ <;> rcases h1 with ⟨hB', hs, hr'⟩ | ⟨q', t, hq', hx', hs, hC, hr'⟩
  · exact ⟨hr.trans hr'.symm, a, b, c, n, mv, hv, ha, hb, hc, hs⟩
  · exact (bad_no (by decide) hB hx' hq').elim
  · exact (bad_no (by decide) hB' hx hq).elim
  · have e : q = q' := nI_inj hq hq' (by decide) (hx.symm.trans hx')
    subst e
    have e2 := hC.1 n' f' hs0 hm0
    subst e2
    exact ⟨hr.trans hr'.symm, a, b, c, _, f', hv, ha, hb, hc, hs⟩
theorem ag_winning (ha : a ≤ 15) (hb : b ≤ 15) (hc : c ≤ 15) (h0 : (Bad 7 x ∧ v0 = (a, b, c, n, mv) ∧ r0 = -1) ∨ ∃ (q n' : Nat) (f' : Nat → Nat), q ≤ 7 ∧ x = nI q ∧ v0 = (a, b, c, n', f') ∧ Srt n' f' ∧ (∀ v, In n' f' v ↔ PM 0 q a b c v) ∧ r0 = nI n')
    (h1 : (Bad 7 x ∧ StpM a b c v1 ∧ r1 = -1) ∨ ∃ (q d' : Nat) (N' : Nat → Nat), q ≤ 7 ∧ x = nI q ∧ StpM a b c v1 ∧ Srt d' N' ∧ (∀ v, In d' N' v ↔ PM 0 q a b c v) ∧ r1 = nI d') : Agr r0 r1 v0 v1 := by
  rcases h0 with ⟨hB, hv, hr⟩ | ⟨q, n', f', hq, hx, hv, hs0, hm0, hr⟩ <;> rcases h1 with ⟨hB', hs, hr'⟩ | ⟨q', d', N', hq', hx', hs, hs1, hm1, hr'⟩
  · exact ⟨hr.trans hr'.symm, a, b, c, n, mv, hv, ha, hb, hc, hs⟩
  · exact (bad_no (by decide) hB hx' hq').elim
  · exact (bad_no (by decide) hB' hx hq).elim
  · have e : q = q' := nI_inj hq hq' (by decide) (hx.symm.trans hx')
    subst e
    have e2 := (Srt.uniq hs0 hs1 (fun v => (hm0 v).trans (hm1 v).symm)).1
    subst e2
    exact ⟨hr.trans hr'.symm, a, b, c, _, f', hv, ha, hb, hc, hs⟩
theorem ag_winningMove (ha : a ≤ 15) (hb : b ≤ 15) (hc : c ≤ 15) (h0 : (Bad 7 x ∧ v0 = (a, b, c, n, mv) ∧ r0 = -1) ∨ ∃ (q n' : Nat) (f' : Nat → Nat), q ≤ 7 ∧ x = nI q ∧ v0 = (a, b, c, n', f') ∧ Srt n' f' ∧ (∀ v, In n' f' v ↔ PM 0 q a b c v) ∧ (((i < 0 ∨ ¬ i < nI n') ∧ r0 = -4) ∨ ∃ j, j < n' ∧ i = nI j ∧ r0 = nI (f' j)))
    (h1 : (Bad 7 x ∧ StpM a b c v1 ∧ r1 = -1) ∨ ∃ (q d' : Nat) (N' : Nat → Nat), q ≤ 7 ∧ x = nI q ∧ StpM a b c v1 ∧ Srt d' N' ∧ (∀ v, In d' N' v ↔ PM 0 q a b c v) ∧ (((i < 0 ∨ ¬ i < nI d') ∧ r1 = -4) ∨ ∃ j, j < d' ∧ i = nI j ∧ r1 = nI (N' j))) : Agr r0 r1 v0 v1 := by
  rcases h0 with ⟨hB, hv, hr⟩ | ⟨q, n', f', hq, hx, hv, hs0, hm0, hr⟩ <;> rcases h1 with ⟨hB', hs, hr'⟩ | ⟨q', d', N', hq', hx', hs, hs1, hm1, hr'⟩
  · exact ⟨hr.trans hr'.symm, a, b, c, n, mv, hv, ha, hb, hc, hs⟩
  · exact (bad_no (by decide) hB hx' hq').elim
  · exact (bad_no (by decide) hB' hx hq).elim
  · have e : q = q' := nI_inj hq hq' (by decide) (hx.symm.trans hx')
    subst e
    obtain ⟨e2, e3⟩ := Srt.uniq hs0 hs1 (fun v => (hm0 v).trans (hm1 v).symm)
    subst e2
    refine ⟨?_, a, b, c, _, f', hv, ha, hb, hc, hs⟩
    have hbd := hs0.bd
    rcases hr with ⟨ho, hr⟩ | ⟨j, hj, hi, hr⟩ <;> rcases hr' with ⟨ho', hr'⟩ | ⟨j', hj', hi', hr'⟩
    · exact hr.trans hr'.symm
    · exact (out_in hbd ho hj' hi').elim
    · exact (out_in hbd ho' hj hi).elim
    · have e4 : j = j' := nI_inj (m := 65536) (by omega) (by omega) (by decide) (hi.symm.trans hi')
      subst e4
      rw [hr, hr', e3 j hj]
theorem ag_value (ha : a ≤ 15) (hb : b ≤ 15) (hc : c ≤ 15) (h0 : v0 = (a, b, c, n, mv) ∧ ((¬ x = 0 ∧ ¬ x = nI 7 ∧ r0 = -1) ∨ (x = 0 ∧ r0 = nI (a ^^^ b ^^^ c)) ∨ (x = nI 7 ∧ r0 = nI ((a ^^^ b ^^^ c) &&& 3))))
    (h1 : StpM a b c v1 ∧ ((¬ x = 0 ∧ ¬ x = nI 7 ∧ r1 = -1) ∨ (x = 0 ∧ r1 = nI (a ^^^ b ^^^ c)) ∨ (x = nI 7 ∧ r1 = nI ((a ^^^ b ^^^ c) &&& 3)))) : Agr r0 r1 v0 v1 := by
  refine ⟨?_, a, b, c, n, mv, h0.1, ha, hb, hc, h1.1⟩
  have h07 : ¬ (0 : Int32) = nI 7 := by decide
  rcases h0.2 with ⟨k1, k2, hr⟩ | ⟨k1, hr⟩ | ⟨k1, hr⟩ <;> rcases h1.2 with ⟨k1', k2', hr'⟩ | ⟨k1', hr'⟩ | ⟨k1', hr'⟩
  · exact hr.trans hr'.symm
  · exact absurd k1' k1
  · exact absurd k1' k2
  · exact absurd k1 k1'
  · exact hr.trans hr'.symm
  · exact absurd (k1.symm.trans k1') h07
  · exact absurd k1 k2'
  · exact absurd (k1'.symm.trans k1) h07
  · exact hr.trans hr'.symm
theorem ag_play (ha : a ≤ 15) (hb : b ≤ 15) (hc : c ≤ 15) (h0 : (Bad 7 x ∧ v0 = (a, b, c, n, mv) ∧ r0 = -1) ∨ (∃ q, q ≤ 7 ∧ x = nI q ∧ (q = 3 ∨ q = 6) ∧ v0 = (a, b, c, n, mv) ∧ r0 = -1) ∨ ∃ (q n' : Nat) (f' : Nat → Nat), q ≤ 7 ∧ q ≠ 3 ∧ q ≠ 6 ∧ x = nI q ∧ Srt n' f' ∧ (∀ v, In n' f' v ↔ PM 0 q a b c v) ∧ (((i < 0 ∨ ¬ i < nI n') ∧ r0 = -4 ∧ v0 = (a, b, c, n', f')) ∨ ∃ j, j < n' ∧ i = nI j ∧ v0 = (f' j % 32, f' j / 32 % 32, f' j / 1024, n', f') ∧ r0 = nI (bn (wonF q (f' j % 32) (f' j / 32 % 32) (f' j / 1024)))))
    (h1 : (Bad 7 x ∧ StpM a b c v1 ∧ r1 = -1) ∨ (∃ q, q ≤ 7 ∧ x = nI q ∧ (q = 3 ∨ q = 6) ∧ StpM a b c v1 ∧ r1 = -1) ∨ ∃ (q d' : Nat) (N' : Nat → Nat), q ≤ 7 ∧ q ≠ 3 ∧ q ≠ 6 ∧ x = nI q ∧ Srt d' N' ∧ (∀ v, In d' N' v ↔ PM 0 q a b c v) ∧ (((i < 0 ∨ ¬ i < nI d') ∧ r1 = -4 ∧ StpM a b c v1) ∨ ∃ j, j < d' ∧ i = nI j ∧ StpM (N' j % 32) (N' j / 32 % 32) (N' j / 1024) v1 ∧ r1 = nI (bn (wonF q (N' j % 32) (N' j / 32 % 32) (N' j / 1024))))) : Agr r0 r1 v0 v1 := by
  rcases h0 with ⟨hB, hv, hr⟩ | ⟨q, hq, hx, h36, hv, hr⟩ | ⟨q, n', f', hq, h3, h6, hx, hs0, hm0, hr⟩ <;> rcases h1 with ⟨hB', hs, hr'⟩ | ⟨q', hq', hx', h36', hs, hr'⟩ | ⟨q', d', N', hq', h3', h6', hx', hs1, hm1, hr'⟩
  · exact ⟨hr.trans hr'.symm, a, b, c, n, mv, hv, ha, hb, hc, hs⟩
  · exact (bad_no (by decide) hB hx' hq').elim
  · exact (bad_no (by decide) hB hx' hq').elim
  · exact (bad_no (by decide) hB' hx hq).elim
  · exact ⟨hr.trans hr'.symm, a, b, c, n, mv, hv, ha, hb, hc, hs⟩
  · have e : q = q' := nI_inj hq hq' (by decide) (hx.symm.trans hx')
    subst e
    rcases h36 with h | h
    · exact absurd h h3'
    · exact absurd h h6'
  · exact (bad_no (by decide) hB' hx hq).elim
  · have e : q = q' := nI_inj hq hq' (by decide) (hx.symm.trans hx')
    subst e
    rcases h36' with h | h
    · exact absurd h h3
    · exact absurd h h6
  · have e : q = q' := nI_inj hq hq' (by decide) (hx.symm.trans hx')
    subst e
    obtain ⟨e2, e3⟩ := Srt.uniq hs0 hs1 (fun v => (hm0 v).trans (hm1 v).symm)
    subst e2
    have hbd := hs0.bd
    rcases hr with ⟨ho, hr, hv⟩ | ⟨j, hj, hi, hv, hr⟩ <;> rcases hr' with ⟨ho', hr', hs⟩ | ⟨j', hj', hi', hs, hr'⟩
    · exact ⟨hr.trans hr'.symm, a, b, c, _, f', hv, ha, hb, hc, hs⟩
    · exact (out_in hbd ho hj' hi').elim
    · exact (out_in hbd ho' hj hi).elim
    · have e4 : j = j' := nI_inj (m := 65536) (by omega) (by omega) (by decide) (hi.symm.trans hi')
      subst e4
      have e5 := e3 j hj
      rw [← e5] at hr' hs
      have hpm := (hm0 (f' j)).mp ⟨j, hj, rfl⟩
      unfold PM at hpm
      rw [if_neg h6] at hpm
      have hle := Mv_le h3 hpm.1
      exact ⟨hr.trans hr'.symm, _, _, _, _, f', hv, by omega, by omega, by omega, hs⟩
end AGREE
end
section
/-! CONSTRUCTORS -/
/-- a new array's class is the known one -/
theorem cA_known {D : va_G} {cl : List vw_C} {tys : List (ClassId × FieldType)} {s : State} {cA cB : ClassId} {ty : FieldType} (hty : ty = .int ∨ ty = .boolean) (t0 : Nat) (h : tys[t0]? = some (cB, ty)) (hK : va_K D cl (tys ++ [(cA, ty)]) s) : cA = cB := by
  have h1 := (hK.2 t0 (cB, ty) (by rw [List.getElem?_append_left (List.getElem?_eq_some_iff.mp h).1]; exact h)).2
  have h2 := (hK.2 tys.length (cA, ty) (by simp)).2
  rcases hty with rfl | rfl
  · exact Option.some.inj ((show s.vm.findClass ("[" ++ FieldType.int.toString) = some cA from h2).symm.trans (show s.vm.findClass ("[" ++ FieldType.int.toString) = some cB from h1))
  · exact Option.some.inj ((show s.vm.findClass ("[" ++ FieldType.boolean.toString) = some cA from h2).symm.trans (show s.vm.findClass ("[" ++ FieldType.boolean.toString) = some cB from h1))
/-- a new array of zeros -/
theorem vn_newa {p : Program} {l : Launch} {e : Env} {R : Room} {s : State} {m : MethodId} {args : Array Value} {below : List Frame} {meth : Method} {c : Code} {H : Heap} {locs : List Loc} {cells slots : Nat} {Q : State → Prop} {pc : Nat} {ls : Array Slot} {rest : List Value} {cc : ByteArray} {D : va_G} {cl : List vw_C} {tys : List (ClassId × FieldType)} {ws : va_W} {A : Nat → Prop} {H0 : Heap} {ty : FieldType} {cB : ClassId} {n : Nat}
    (hexec : p.tables.exec = Jvm.exec) (hb : c.code = cc) (atype : ArrayType) (harr : (Cond.arrayClass (newarray.typeOf atype)).before args s = true) (hty : newarray.typeOf atype = ty) (hty2 : ty = .int ∨ ty = .boolean) (t0 : Nat) (ht : tys[t0]? = some (cB, ty)) (hK : va_K D cl tys s) (hP : va_P D cl ws H) (hD : va_D A ws) (hS : va_S A H0 H locs) (hA : ∀ q, H0.size ≤ q → A q)
    (hn : n < 2147483648) (f : Nat → Nat) (hf : ∀ j, f j = 0) (hbytes : n * componentBytes ty ≤ 536870912) (hcells : cells + 1 ≤ R.cells) (hslots : slots + n ≤ R.slots) (hdg : decode cc pc = .ok (.newarray atype, 2))
    (kk : ∀ (q : Nat) (H1 : Heap), va_P D cl (ws ++ [(q, .inl (cB, n, .inl (fun k => nI (f k))))]) H1 → va_D A (ws ++ [(q, .inl (cB, n, .inl (fun k => nI (f k))))]) → va_S A H0 H1 locs → W p l e R s m args below meth c H1 locs (cells + 1) (slots + n) Q (F0 m (pc + 2) ls (.ref q :: rest))) :
    W p l e R s m args below meth c H locs cells slots Q (F0 m pc ls (.int (nI n) :: rest)) := by
  refine va_newa (a0 := (n, .inl (fun k => nI (f k)))) hexec hb harr hty hK hP hD hS hA (fun cA => ?_) (nI_pos (show n < 2 ^ 31 from hn)) (nI_clamp (show n < 2 ^ 31 from hn)) hbytes hcells hslots hdg (fun q cA H1 hK1 hP1 hD1 hS1 => ?_)
  · rw [vp_cell_i]
    have e : (fun j => Value.int (nI (f j))) = (fun _ => defaultValue ty) := by
      funext j
      rw [hf j]
      rcases hty2 with rfl | rfl <;> rfl
    rw [e]
  · have e := cA_known hty2 t0 ht hK1
    subst e
    exact kk q H1 hP1 hD1 hS1
theorem hN0 : ∀ j, hN 0 0 0 j = 0 := by
  intro j
  match j with
  | 0 => rfl
  | 1 => rfl
  | 2 => rfl
  | j + 3 => rfl
abbrev z0S : S0 := (0, 0, 0, 0, fun _ => 0)
abbrev z1S : S1 := (0, 0, 0, 0, fun _ => 0, fun _ => 0, fun _ => 0, fun _ => 0, fun _ => 0, fun _ => 0, fun _ => 0, 0, fun _ => 0)
def B0c (l : Launch) (D : va_G) (I Z : ClassId) (o : Nat) (A : Nat → Prop) (f : Nat → Nat) (t : State) : Prop := va_P D vwCl (cells0 (l, D, I, Z, o, f) z0S) t.heap ∧ va_K D vwCl [(I, .int), (Z, .boolean)] t ∧ va_D A (cells0 (l, D, I, Z, o, f) z0S)
def B1c (l : Launch) (D : va_G) (I Z : ClassId) (o : Nat) (A : Nat → Prop) (f : Nat → Nat) (t : State) : Prop := va_P D vwCl (cells1 (l, D, I, Z, o, f) z1S) t.heap ∧ va_K D vwCl [(I, .int), (Z, .boolean)] t ∧ va_D A (cells1 (l, D, I, Z, o, f) z1S)
set_option maxHeartbeats 4000000 in
set_option maxRecDepth 100000 in
theorem n0_init (l : Launch) (D : va_G) (I Z : ClassId) (o sz : Nat) : Met l yX0_init (ws_ yX0_init cX0_init 1 none) ({ frames := 1, cells := 2, slots := 803, locals := 12 }) (va_Pc [.ref o] (fun U => U.heap.size = sz ∧ va_P D vwCl [(o, .inr (0, [.null, .int (nI 0), .null]))] U.heap ∧ va_K D vwCl [(I, .int), (Z, .boolean)] U ∧ va_D (fun _ => True) [(o, .inr (0, [.null, .int (nI 0), .null]))])) (va_Qv (fun _ : Nat → Nat => True) (B0c l D I Z o (va_A [(o, .inr (0, [.null, .int (nI 0), .null]))] sz)) (va_A [(o, .inr (0, [.null, .int (nI 0), .null]))] sz)) 2 803 (va_A [(o, .inr (0, [.null, .int (nI 0), .null]))] sz) := by
  refine Met.ofW (cc := cX0_init) (maxL := 1) (ret := none) (by decide) rfl ?_
  intro p e s m args below meth c s₁ B hml hv
  obtain ⟨rfl, hsz, hP, hK, hD0⟩ := hv
  have hx := B.exec
  have hb := B.bytes
  have hr := B.returns
  have hts := atoms_spec (ws := (ws_ yX0_init cX0_init 1 none)) B.pre
  have hts : ∀ w ∈ lw_all, w.before _ s = true := fun w h => hts w (List.mem_cons_of_mem _ h)
  have hown : s.vm.findClass RX0 = some m.cls := findClass_of_methodNamed B.named
  have hlocks := B.notSynchronized
  have hin : meth.name = "<init>" := (name_of_methodNamed B.named B.method).1
  subst hsz
  have hD := hD0.self (sz := s.heap.size)
  generalize hAe : va_A [(o, .inr (0, [.null, .int (nI 0), .null]))] s.heap.size = A at hD ⊢
  have hA : ∀ q : Nat, s.heap.size ≤ q → A q := fun q h => by rw [← hAe]; exact Or.inr h
  have hS : va_S A s.heap s.heap [] := va_S.rf
  have hP : va_P D vwCl [(o, .inr (0, [.null, .int (nI 0), .null]))] s.heap := hP
  have hl := lv_entry ([.ref o]) (n := 1) (Nat.le_of_ble_eq_true rfl)
  rw [lg_entry_eq]
  generalize (lg_sl ([.ref o]) ++ List.replicate (1 - (lg_sl ([.ref o])).length) Slot.unset).toArray = ls at hl ⊢
  have hl : lv_has ls 1 [(0, .ref o)] := hl
  refine lv_aload_n hx hb dX0_init_0 rfl (lv_at hl 0 rfl) ?_
  refine W.objInit hx hb hown (hts _ q44) (hts _ q45) (hts _ q46) rfl (by rw [hml]; exact hl.1) rfl dX0_init_1 (Nat.le_of_ble_eq_true rfl) (Nat.le_of_ble_eq_true rfl) ?_
  refine W.eq (g2 := F0 m 4 ls []) rfl ?_
  refine lv_aload_n hx hb dX0_init_4 rfl (lv_at hl 0 rfl) ?_
  refine lv_iconst (v := nI 3) hx hb dX0_init_5 (by decide) ?_
  refine vn_newa hx hb .int (hts _ q57) rfl (Or.inl rfl) 0 rfl hK hP hD hS hA (n := 3) (by decide) (hN 0 0 0) hN0 (Nat.le_of_ble_eq_true rfl) (Nat.le_of_ble_eq_true rfl) (Nat.le_of_ble_eq_true rfl) dX0_init_6 (fun a0 H hP hD hS => ?_)
  have hP : va_P D vwCl [(o, .inr (0, [.null, .int (nI 0), .null])), (a0, .inl (I, 3, .inl (fun k => nI (hN 0 0 0 k))))] H := hP
  have hD : va_D A [(o, .inr (0, [.null, .int (nI 0), .null])), (a0, .inl (I, 3, .inl (fun k => nI (hN 0 0 0 k))))] := hD
  refine W.widen (k := 1) (n := 3) (Nat.le_of_ble_eq_true rfl) (Nat.le_of_ble_eq_true rfl) ?_
  refine va_putF (D := D) (ci := 0) (v := .ref a0) (ty := .array .int) (C := RX0) (T := TX0) (N := 3) hx hb hts in_X0 tyX0 tyX0_ok nmX0 hown hK hP hD hS 0 rfl rfl 0 (by decide) (hts _ q47) (fun _ h9 => h9) rfl hin rfl (by decide +kernel) rfl rfl (Nat.le_of_ble_eq_true rfl) dX0_init_8 (fun H locs hP hD hS => ?_)
  have hP : va_P D vwCl [(o, .inr (0, [.ref a0, .int (nI 0), .null])), (a0, .inl (I, 3, .inl (fun k => nI (hN 0 0 0 k))))] H := hP
  have hD : va_D A [(o, .inr (0, [.ref a0, .int (nI 0), .null])), (a0, .inl (I, 3, .inl (fun k => nI (hN 0 0 0 k))))] := hD
  refine lv_aload_n hx hb dX0_init_11 rfl (lv_at hl 0 rfl) ?_
  refine lv_sipush (v := nI 800) hx hb dX0_init_12 (by decide) ?_
  refine vn_newa hx hb .int (hts _ q57) rfl (Or.inl rfl) 0 rfl hK hP hD hS hA (n := 800) (by decide) (fun _ => 0) (fun _ => rfl) (Nat.le_of_ble_eq_true rfl) (Nat.le_of_ble_eq_true rfl) (Nat.le_of_ble_eq_true rfl) dX0_init_15 (fun a1 H hP hD hS => ?_)
  have hP : va_P D vwCl [(o, .inr (0, [.ref a0, .int (nI 0), .null])), (a0, .inl (I, 3, .inl (fun k => nI (hN 0 0 0 k)))), (a1, .inl (I, 800, .inl (fun k => nI (0))))] H := hP
  have hD : va_D A [(o, .inr (0, [.ref a0, .int (nI 0), .null])), (a0, .inl (I, 3, .inl (fun k => nI (hN 0 0 0 k)))), (a1, .inl (I, 800, .inl (fun k => nI (0))))] := hD
  refine W.widen (k := 2) (n := 803) (Nat.le_of_ble_eq_true rfl) (Nat.le_of_ble_eq_true rfl) ?_
  refine va_putF (D := D) (ci := 0) (v := .ref a1) (ty := .array .int) (C := RX0) (T := TX0) (N := 3) hx hb hts in_X0 tyX0 tyX0_ok nmX0 hown hK hP hD hS 0 rfl rfl 2 (by decide) (hts _ q49) (fun _ h9 => h9) rfl hin rfl (by decide +kernel) rfl rfl (Nat.le_of_ble_eq_true rfl) dX0_init_17 (fun H locs hP hD hS => ?_)
  have hP : va_P D vwCl [(o, .inr (0, [.ref a0, .int (nI 0), .ref a1])), (a0, .inl (I, 3, .inl (fun k => nI (hN 0 0 0 k)))), (a1, .inl (I, 800, .inl (fun k => nI (0))))] H := hP
  have hD : va_D A [(o, .inr (0, [.ref a0, .int (nI 0), .ref a1])), (a0, .inl (I, 3, .inl (fun k => nI (hN 0 0 0 k)))), (a1, .inl (I, 800, .inl (fun k => nI (0))))] := hD
  refine lv_aload_n hx hb dX0_init_20 rfl (lv_at hl 0 rfl) ?_
  refine lv_iconst (v := nI 0) hx hb dX0_init_21 (by decide) ?_
  refine va_put (D := D) (ci := 0) (v := .int (nI 0)) (ty := .int) (C := RX0) (T := TX0) (N := 3) hx hb hts in_X0 tyX0 tyX0_ok nmX0 hown hK hP hD hS 0 rfl rfl 1 (by decide) (hts _ q48) (fun _ h9 => h9) rfl (by decide +kernel) rfl rfl (Nat.le_of_ble_eq_true rfl) dX0_init_22 (fun H locs hP hD hS => ?_)
  have hP : va_P D vwCl [(o, .inr (0, [.ref a0, .int (nI 0), .ref a1])), (a0, .inl (I, 3, .inl (fun k => nI (hN 0 0 0 k)))), (a1, .inl (I, 800, .inl (fun k => nI (0))))] H := hP
  have hD : va_D A [(o, .inr (0, [.ref a0, .int (nI 0), .ref a1])), (a0, .inl (I, 3, .inl (fun k => nI (hN 0 0 0 k)))), (a1, .inl (I, 800, .inl (fun k => nI (0))))] := hD
  have hP9 : va_P D vwCl (cells0 (l, D, I, Z, o, (fun k => if k = 0 then a0 else a1)) z0S) H := hP
  have hD9 : va_D A (cells0 (l, D, I, Z, o, (fun k => if k = 0 then a0 else a1)) z0S) := hD
  exact W.vret hx hb hr (fun t ht hW => ⟨⟨(fun k => if k = 0 then a0 else a1), rfl, trivial, by rw [ht]; exact hP9, va_K.moved hW.alike hK, hD9⟩, hS.F ht⟩) hS.2.2 dX0_init_25
set_option maxHeartbeats 4000000 in
set_option maxRecDepth 100000 in
theorem n1_init (l : Launch) (D : va_G) (I Z : ClassId) (o sz : Nat) : Met l yX1_init (ws_ yX1_init cX1_init 1 none) ({ frames := 1, cells := 9, slots := 52620, locals := 12 }) (va_Pc [.ref o] (fun U => U.heap.size = sz ∧ va_P D vwCl [(o, .inr (1, [.null, .int (nI 0), .null, .null, .null, .null, .null, .null, .null, .int (nI 0), .null]))] U.heap ∧ va_K D vwCl [(I, .int), (Z, .boolean)] U ∧ va_D (fun _ => True) [(o, .inr (1, [.null, .int (nI 0), .null, .null, .null, .null, .null, .null, .null, .int (nI 0), .null]))])) (va_Qv (fun _ : Nat → Nat => True) (B1c l D I Z o (va_A [(o, .inr (1, [.null, .int (nI 0), .null, .null, .null, .null, .null, .null, .null, .int (nI 0), .null]))] sz)) (va_A [(o, .inr (1, [.null, .int (nI 0), .null, .null, .null, .null, .null, .null, .null, .int (nI 0), .null]))] sz)) 9 52620 (va_A [(o, .inr (1, [.null, .int (nI 0), .null, .null, .null, .null, .null, .null, .null, .int (nI 0), .null]))] sz) := by
  refine Met.ofW (cc := cX1_init) (maxL := 1) (ret := none) (by decide) rfl ?_
  intro p e s m args below meth c s₁ B hml hv
  obtain ⟨rfl, hsz, hP, hK, hD0⟩ := hv
  have hx := B.exec
  have hb := B.bytes
  have hr := B.returns
  have hts := atoms_spec (ws := (ws_ yX1_init cX1_init 1 none)) B.pre
  have hts : ∀ w ∈ lw_all, w.before _ s = true := fun w h => hts w (List.mem_cons_of_mem _ h)
  have hown : s.vm.findClass RX1 = some m.cls := findClass_of_methodNamed B.named
  have hlocks := B.notSynchronized
  have hin : meth.name = "<init>" := (name_of_methodNamed B.named B.method).1
  subst hsz
  have hD := hD0.self (sz := s.heap.size)
  generalize hAe : va_A [(o, .inr (1, [.null, .int (nI 0), .null, .null, .null, .null, .null, .null, .null, .int (nI 0), .null]))] s.heap.size = A at hD ⊢
  have hA : ∀ q : Nat, s.heap.size ≤ q → A q := fun q h => by rw [← hAe]; exact Or.inr h
  have hS : va_S A s.heap s.heap [] := va_S.rf
  have hP : va_P D vwCl [(o, .inr (1, [.null, .int (nI 0), .null, .null, .null, .null, .null, .null, .null, .int (nI 0), .null]))] s.heap := hP
  have hl := lv_entry ([.ref o]) (n := 1) (Nat.le_of_ble_eq_true rfl)
  rw [lg_entry_eq]
  generalize (lg_sl ([.ref o]) ++ List.replicate (1 - (lg_sl ([.ref o])).length) Slot.unset).toArray = ls at hl ⊢
  have hl : lv_has ls 1 [(0, .ref o)] := hl
  refine lv_aload_n hx hb dX1_init_0 rfl (lv_at hl 0 rfl) ?_
  refine W.objInit hx hb hown (hts _ q172) (hts _ q45) (hts _ q46) rfl (by rw [hml]; exact hl.1) rfl dX1_init_1 (Nat.le_of_ble_eq_true rfl) (Nat.le_of_ble_eq_true rfl) ?_
  refine W.eq (g2 := F0 m 4 ls []) rfl ?_
  refine lv_aload_n hx hb dX1_init_4 rfl (lv_at hl 0 rfl) ?_
  refine lv_iconst (v := nI 3) hx hb dX1_init_5 (by decide) ?_
  refine vn_newa hx hb .int (hts _ q57) rfl (Or.inl rfl) 0 rfl hK hP hD hS hA (n := 3) (by decide) (hN 0 0 0) hN0 (Nat.le_of_ble_eq_true rfl) (Nat.le_of_ble_eq_true rfl) (Nat.le_of_ble_eq_true rfl) dX1_init_6 (fun a0 H hP hD hS => ?_)
  have hP : va_P D vwCl [(o, .inr (1, [.null, .int (nI 0), .null, .null, .null, .null, .null, .null, .null, .int (nI 0), .null])), (a0, .inl (I, 3, .inl (fun k => nI (hN 0 0 0 k))))] H := hP
  have hD : va_D A [(o, .inr (1, [.null, .int (nI 0), .null, .null, .null, .null, .null, .null, .null, .int (nI 0), .null])), (a0, .inl (I, 3, .inl (fun k => nI (hN 0 0 0 k))))] := hD
  refine W.widen (k := 1) (n := 3) (Nat.le_of_ble_eq_true rfl) (Nat.le_of_ble_eq_true rfl) ?_
  refine va_put (D := D) (ci := 1) (v := .ref a0) (ty := .array .int) (C := RX1) (T := TX1) (N := 11) hx hb hts in_X1 tyX1 tyX1_ok nmX1 hown hK hP hD hS 0 rfl rfl 0 (by decide) (hts _ q173) (fun _ h9 => h9) rfl (by decide +kernel) rfl rfl (Nat.le_of_ble_eq_true rfl) dX1_init_8 (fun H locs hP hD hS => ?_)
  have hP : va_P D vwCl [(o, .inr (1, [.ref a0, .int (nI 0), .null, .null, .null, .null, .null, .null, .null, .int (nI 0), .null])), (a0, .inl (I, 3, .inl (fun k => nI (hN 0 0 0 k))))] H := hP
  have hD : va_D A [(o, .inr (1, [.ref a0, .int (nI 0), .null, .null, .null, .null, .null, .null, .null, .int (nI 0), .null])), (a0, .inl (I, 3, .inl (fun k => nI (hN 0 0 0 k))))] := hD
  refine lv_aload_n hx hb dX1_init_11 rfl (lv_at hl 0 rfl) ?_
  refine lv_sipush (v := nI 800) hx hb dX1_init_12 (by decide) ?_
  refine vn_newa hx hb .int (hts _ q57) rfl (Or.inl rfl) 0 rfl hK hP hD hS hA (n := 800) (by decide) (fun _ => 0) (fun _ => rfl) (Nat.le_of_ble_eq_true rfl) (Nat.le_of_ble_eq_true rfl) (Nat.le_of_ble_eq_true rfl) dX1_init_15 (fun a1 H hP hD hS => ?_)
  have hP : va_P D vwCl [(o, .inr (1, [.ref a0, .int (nI 0), .null, .null, .null, .null, .null, .null, .null, .int (nI 0), .null])), (a0, .inl (I, 3, .inl (fun k => nI (hN 0 0 0 k)))), (a1, .inl (I, 800, .inl (fun k => nI (0))))] H := hP
  have hD : va_D A [(o, .inr (1, [.ref a0, .int (nI 0), .null, .null, .null, .null, .null, .null, .null, .int (nI 0), .null])), (a0, .inl (I, 3, .inl (fun k => nI (hN 0 0 0 k)))), (a1, .inl (I, 800, .inl (fun k => nI (0))))] := hD
  refine W.widen (k := 2) (n := 803) (Nat.le_of_ble_eq_true rfl) (Nat.le_of_ble_eq_true rfl) ?_
  refine va_put (D := D) (ci := 1) (v := .ref a1) (ty := .array .int) (C := RX1) (T := TX1) (N := 11) hx hb hts in_X1 tyX1 tyX1_ok nmX1 hown hK hP hD hS 0 rfl rfl 2 (by decide) (hts _ q175) (fun _ h9 => h9) rfl (by decide +kernel) rfl rfl (Nat.le_of_ble_eq_true rfl) dX1_init_17 (fun H locs hP hD hS => ?_)
  have hP : va_P D vwCl [(o, .inr (1, [.ref a0, .int (nI 0), .ref a1, .null, .null, .null, .null, .null, .null, .int (nI 0), .null])), (a0, .inl (I, 3, .inl (fun k => nI (hN 0 0 0 k)))), (a1, .inl (I, 800, .inl (fun k => nI (0))))] H := hP
  have hD : va_D A [(o, .inr (1, [.ref a0, .int (nI 0), .ref a1, .null, .null, .null, .null, .null, .null, .int (nI 0), .null])), (a0, .inl (I, 3, .inl (fun k => nI (hN 0 0 0 k)))), (a1, .inl (I, 800, .inl (fun k => nI (0))))] := hD
  refine lv_aload_n hx hb dX1_init_20 rfl (lv_at hl 0 rfl) ?_
  refine lv_sipush (v := nI 800) hx hb dX1_init_21 (by decide) ?_
  refine vn_newa hx hb .int (hts _ q57) rfl (Or.inl rfl) 0 rfl hK hP hD hS hA (n := 800) (by decide) (fun _ => 0) (fun _ => rfl) (Nat.le_of_ble_eq_true rfl) (Nat.le_of_ble_eq_true rfl) (Nat.le_of_ble_eq_true rfl) dX1_init_24 (fun a2 H hP hD hS => ?_)
  have hP : va_P D vwCl [(o, .inr (1, [.ref a0, .int (nI 0), .ref a1, .null, .null, .null, .null, .null, .null, .int (nI 0), .null])), (a0, .inl (I, 3, .inl (fun k => nI (hN 0 0 0 k)))), (a1, .inl (I, 800, .inl (fun k => nI (0)))), (a2, .inl (I, 800, .inl (fun k => nI (0))))] H := hP
  have hD : va_D A [(o, .inr (1, [.ref a0, .int (nI 0), .ref a1, .null, .null, .null, .null, .null, .null, .int (nI 0), .null])), (a0, .inl (I, 3, .inl (fun k => nI (hN 0 0 0 k)))), (a1, .inl (I, 800, .inl (fun k => nI (0)))), (a2, .inl (I, 800, .inl (fun k => nI (0))))] := hD
  refine W.widen (k := 3) (n := 1603) (Nat.le_of_ble_eq_true rfl) (Nat.le_of_ble_eq_true rfl) ?_
  refine va_put (D := D) (ci := 1) (v := .ref a2) (ty := .array .int) (C := RX1) (T := TX1) (N := 11) hx hb hts in_X1 tyX1 tyX1_ok nmX1 hown hK hP hD hS 0 rfl rfl 3 (by decide) (hts _ q176) (fun _ h9 => h9) rfl (by decide +kernel) rfl rfl (Nat.le_of_ble_eq_true rfl) dX1_init_26 (fun H locs hP hD hS => ?_)
  have hP : va_P D vwCl [(o, .inr (1, [.ref a0, .int (nI 0), .ref a1, .ref a2, .null, .null, .null, .null, .null, .int (nI 0), .null])), (a0, .inl (I, 3, .inl (fun k => nI (hN 0 0 0 k)))), (a1, .inl (I, 800, .inl (fun k => nI (0)))), (a2, .inl (I, 800, .inl (fun k => nI (0))))] H := hP
  have hD : va_D A [(o, .inr (1, [.ref a0, .int (nI 0), .ref a1, .ref a2, .null, .null, .null, .null, .null, .int (nI 0), .null])), (a0, .inl (I, 3, .inl (fun k => nI (hN 0 0 0 k)))), (a1, .inl (I, 800, .inl (fun k => nI (0)))), (a2, .inl (I, 800, .inl (fun k => nI (0))))] := hD
  refine lv_aload_n hx hb dX1_init_29 rfl (lv_at hl 0 rfl) ?_
  refine lv_sipush (v := nI 800) hx hb dX1_init_30 (by decide) ?_
  refine vn_newa hx hb .int (hts _ q57) rfl (Or.inl rfl) 0 rfl hK hP hD hS hA (n := 800) (by decide) (fun _ => 0) (fun _ => rfl) (Nat.le_of_ble_eq_true rfl) (Nat.le_of_ble_eq_true rfl) (Nat.le_of_ble_eq_true rfl) dX1_init_33 (fun a3 H hP hD hS => ?_)
  have hP : va_P D vwCl [(o, .inr (1, [.ref a0, .int (nI 0), .ref a1, .ref a2, .null, .null, .null, .null, .null, .int (nI 0), .null])), (a0, .inl (I, 3, .inl (fun k => nI (hN 0 0 0 k)))), (a1, .inl (I, 800, .inl (fun k => nI (0)))), (a2, .inl (I, 800, .inl (fun k => nI (0)))), (a3, .inl (I, 800, .inl (fun k => nI (0))))] H := hP
  have hD : va_D A [(o, .inr (1, [.ref a0, .int (nI 0), .ref a1, .ref a2, .null, .null, .null, .null, .null, .int (nI 0), .null])), (a0, .inl (I, 3, .inl (fun k => nI (hN 0 0 0 k)))), (a1, .inl (I, 800, .inl (fun k => nI (0)))), (a2, .inl (I, 800, .inl (fun k => nI (0)))), (a3, .inl (I, 800, .inl (fun k => nI (0))))] := hD
  refine W.widen (k := 4) (n := 2403) (Nat.le_of_ble_eq_true rfl) (Nat.le_of_ble_eq_true rfl) ?_
  refine va_put (D := D) (ci := 1) (v := .ref a3) (ty := .array .int) (C := RX1) (T := TX1) (N := 11) hx hb hts in_X1 tyX1 tyX1_ok nmX1 hown hK hP hD hS 0 rfl rfl 4 (by decide) (hts _ q177) (fun _ h9 => h9) rfl (by decide +kernel) rfl rfl (Nat.le_of_ble_eq_true rfl) dX1_init_35 (fun H locs hP hD hS => ?_)
  have hP : va_P D vwCl [(o, .inr (1, [.ref a0, .int (nI 0), .ref a1, .ref a2, .ref a3, .null, .null, .null, .null, .int (nI 0), .null])), (a0, .inl (I, 3, .inl (fun k => nI (hN 0 0 0 k)))), (a1, .inl (I, 800, .inl (fun k => nI (0)))), (a2, .inl (I, 800, .inl (fun k => nI (0)))), (a3, .inl (I, 800, .inl (fun k => nI (0))))] H := hP
  have hD : va_D A [(o, .inr (1, [.ref a0, .int (nI 0), .ref a1, .ref a2, .ref a3, .null, .null, .null, .null, .int (nI 0), .null])), (a0, .inl (I, 3, .inl (fun k => nI (hN 0 0 0 k)))), (a1, .inl (I, 800, .inl (fun k => nI (0)))), (a2, .inl (I, 800, .inl (fun k => nI (0)))), (a3, .inl (I, 800, .inl (fun k => nI (0))))] := hD
  refine lv_aload_n hx hb dX1_init_38 rfl (lv_at hl 0 rfl) ?_
  refine lv_sipush (v := nI 22816) hx hb dX1_init_39 (by decide) ?_
  refine vn_newa hx hb .boolean (hts _ q207) rfl (Or.inr rfl) 1 rfl hK hP hD hS hA (n := 22816) (by decide) (fun _ => 0) (fun _ => rfl) (Nat.le_of_ble_eq_true rfl) (Nat.le_of_ble_eq_true rfl) (Nat.le_of_ble_eq_true rfl) dX1_init_42 (fun a4 H hP hD hS => ?_)
  have hP : va_P D vwCl [(o, .inr (1, [.ref a0, .int (nI 0), .ref a1, .ref a2, .ref a3, .null, .null, .null, .null, .int (nI 0), .null])), (a0, .inl (I, 3, .inl (fun k => nI (hN 0 0 0 k)))), (a1, .inl (I, 800, .inl (fun k => nI (0)))), (a2, .inl (I, 800, .inl (fun k => nI (0)))), (a3, .inl (I, 800, .inl (fun k => nI (0)))), (a4, .inl (Z, 22816, .inl (fun k => nI (0))))] H := hP
  have hD : va_D A [(o, .inr (1, [.ref a0, .int (nI 0), .ref a1, .ref a2, .ref a3, .null, .null, .null, .null, .int (nI 0), .null])), (a0, .inl (I, 3, .inl (fun k => nI (hN 0 0 0 k)))), (a1, .inl (I, 800, .inl (fun k => nI (0)))), (a2, .inl (I, 800, .inl (fun k => nI (0)))), (a3, .inl (I, 800, .inl (fun k => nI (0)))), (a4, .inl (Z, 22816, .inl (fun k => nI (0))))] := hD
  refine W.widen (k := 5) (n := 25219) (Nat.le_of_ble_eq_true rfl) (Nat.le_of_ble_eq_true rfl) ?_
  refine va_put (D := D) (ci := 1) (v := .ref a4) (ty := .array .boolean) (C := RX1) (T := TX1) (N := 11) hx hb hts in_X1 tyX1 tyX1_ok nmX1 hown hK hP hD hS 0 rfl rfl 5 (by decide) (hts _ q178) (fun _ h9 => h9) rfl (by decide +kernel) rfl rfl (Nat.le_of_ble_eq_true rfl) dX1_init_44 (fun H locs hP hD hS => ?_)
  have hP : va_P D vwCl [(o, .inr (1, [.ref a0, .int (nI 0), .ref a1, .ref a2, .ref a3, .ref a4, .null, .null, .null, .int (nI 0), .null])), (a0, .inl (I, 3, .inl (fun k => nI (hN 0 0 0 k)))), (a1, .inl (I, 800, .inl (fun k => nI (0)))), (a2, .inl (I, 800, .inl (fun k => nI (0)))), (a3, .inl (I, 800, .inl (fun k => nI (0)))), (a4, .inl (Z, 22816, .inl (fun k => nI (0))))] H := hP
  have hD : va_D A [(o, .inr (1, [.ref a0, .int (nI 0), .ref a1, .ref a2, .ref a3, .ref a4, .null, .null, .null, .int (nI 0), .null])), (a0, .inl (I, 3, .inl (fun k => nI (hN 0 0 0 k)))), (a1, .inl (I, 800, .inl (fun k => nI (0)))), (a2, .inl (I, 800, .inl (fun k => nI (0)))), (a3, .inl (I, 800, .inl (fun k => nI (0)))), (a4, .inl (Z, 22816, .inl (fun k => nI (0))))] := hD
  refine lv_aload_n hx hb dX1_init_47 rfl (lv_at hl 0 rfl) ?_
  refine lv_sipush (v := nI 22816) hx hb dX1_init_48 (by decide) ?_
  refine vn_newa hx hb .int (hts _ q57) rfl (Or.inl rfl) 0 rfl hK hP hD hS hA (n := 22816) (by decide) (fun _ => 0) (fun _ => rfl) (Nat.le_of_ble_eq_true rfl) (Nat.le_of_ble_eq_true rfl) (Nat.le_of_ble_eq_true rfl) dX1_init_51 (fun a5 H hP hD hS => ?_)
  have hP : va_P D vwCl [(o, .inr (1, [.ref a0, .int (nI 0), .ref a1, .ref a2, .ref a3, .ref a4, .null, .null, .null, .int (nI 0), .null])), (a0, .inl (I, 3, .inl (fun k => nI (hN 0 0 0 k)))), (a1, .inl (I, 800, .inl (fun k => nI (0)))), (a2, .inl (I, 800, .inl (fun k => nI (0)))), (a3, .inl (I, 800, .inl (fun k => nI (0)))), (a4, .inl (Z, 22816, .inl (fun k => nI (0)))), (a5, .inl (I, 22816, .inl (fun k => nI (0))))] H := hP
  have hD : va_D A [(o, .inr (1, [.ref a0, .int (nI 0), .ref a1, .ref a2, .ref a3, .ref a4, .null, .null, .null, .int (nI 0), .null])), (a0, .inl (I, 3, .inl (fun k => nI (hN 0 0 0 k)))), (a1, .inl (I, 800, .inl (fun k => nI (0)))), (a2, .inl (I, 800, .inl (fun k => nI (0)))), (a3, .inl (I, 800, .inl (fun k => nI (0)))), (a4, .inl (Z, 22816, .inl (fun k => nI (0)))), (a5, .inl (I, 22816, .inl (fun k => nI (0))))] := hD
  refine W.widen (k := 6) (n := 48035) (Nat.le_of_ble_eq_true rfl) (Nat.le_of_ble_eq_true rfl) ?_
  refine va_put (D := D) (ci := 1) (v := .ref a5) (ty := .array .int) (C := RX1) (T := TX1) (N := 11) hx hb hts in_X1 tyX1 tyX1_ok nmX1 hown hK hP hD hS 0 rfl rfl 6 (by decide) (hts _ q179) (fun _ h9 => h9) rfl (by decide +kernel) rfl rfl (Nat.le_of_ble_eq_true rfl) dX1_init_53 (fun H locs hP hD hS => ?_)
  have hP : va_P D vwCl [(o, .inr (1, [.ref a0, .int (nI 0), .ref a1, .ref a2, .ref a3, .ref a4, .ref a5, .null, .null, .int (nI 0), .null])), (a0, .inl (I, 3, .inl (fun k => nI (hN 0 0 0 k)))), (a1, .inl (I, 800, .inl (fun k => nI (0)))), (a2, .inl (I, 800, .inl (fun k => nI (0)))), (a3, .inl (I, 800, .inl (fun k => nI (0)))), (a4, .inl (Z, 22816, .inl (fun k => nI (0)))), (a5, .inl (I, 22816, .inl (fun k => nI (0))))] H := hP
  have hD : va_D A [(o, .inr (1, [.ref a0, .int (nI 0), .ref a1, .ref a2, .ref a3, .ref a4, .ref a5, .null, .null, .int (nI 0), .null])), (a0, .inl (I, 3, .inl (fun k => nI (hN 0 0 0 k)))), (a1, .inl (I, 800, .inl (fun k => nI (0)))), (a2, .inl (I, 800, .inl (fun k => nI (0)))), (a3, .inl (I, 800, .inl (fun k => nI (0)))), (a4, .inl (Z, 22816, .inl (fun k => nI (0)))), (a5, .inl (I, 22816, .inl (fun k => nI (0))))] := hD
  refine lv_aload_n hx hb dX1_init_56 rfl (lv_at hl 0 rfl) ?_
  refine lv_bipush (v := nI 64) hx hb dX1_init_57 (by decide) ?_
  refine vn_newa hx hb .boolean (hts _ q207) rfl (Or.inr rfl) 1 rfl hK hP hD hS hA (n := 64) (by decide) (fun _ => 0) (fun _ => rfl) (Nat.le_of_ble_eq_true rfl) (Nat.le_of_ble_eq_true rfl) (Nat.le_of_ble_eq_true rfl) dX1_init_59 (fun a6 H hP hD hS => ?_)
  have hP : va_P D vwCl [(o, .inr (1, [.ref a0, .int (nI 0), .ref a1, .ref a2, .ref a3, .ref a4, .ref a5, .null, .null, .int (nI 0), .null])), (a0, .inl (I, 3, .inl (fun k => nI (hN 0 0 0 k)))), (a1, .inl (I, 800, .inl (fun k => nI (0)))), (a2, .inl (I, 800, .inl (fun k => nI (0)))), (a3, .inl (I, 800, .inl (fun k => nI (0)))), (a4, .inl (Z, 22816, .inl (fun k => nI (0)))), (a5, .inl (I, 22816, .inl (fun k => nI (0)))), (a6, .inl (Z, 64, .inl (fun k => nI (0))))] H := hP
  have hD : va_D A [(o, .inr (1, [.ref a0, .int (nI 0), .ref a1, .ref a2, .ref a3, .ref a4, .ref a5, .null, .null, .int (nI 0), .null])), (a0, .inl (I, 3, .inl (fun k => nI (hN 0 0 0 k)))), (a1, .inl (I, 800, .inl (fun k => nI (0)))), (a2, .inl (I, 800, .inl (fun k => nI (0)))), (a3, .inl (I, 800, .inl (fun k => nI (0)))), (a4, .inl (Z, 22816, .inl (fun k => nI (0)))), (a5, .inl (I, 22816, .inl (fun k => nI (0)))), (a6, .inl (Z, 64, .inl (fun k => nI (0))))] := hD
  refine W.widen (k := 7) (n := 48099) (Nat.le_of_ble_eq_true rfl) (Nat.le_of_ble_eq_true rfl) ?_
  refine va_put (D := D) (ci := 1) (v := .ref a6) (ty := .array .boolean) (C := RX1) (T := TX1) (N := 11) hx hb hts in_X1 tyX1 tyX1_ok nmX1 hown hK hP hD hS 0 rfl rfl 7 (by decide) (hts _ q180) (fun _ h9 => h9) rfl (by decide +kernel) rfl rfl (Nat.le_of_ble_eq_true rfl) dX1_init_61 (fun H locs hP hD hS => ?_)
  have hP : va_P D vwCl [(o, .inr (1, [.ref a0, .int (nI 0), .ref a1, .ref a2, .ref a3, .ref a4, .ref a5, .ref a6, .null, .int (nI 0), .null])), (a0, .inl (I, 3, .inl (fun k => nI (hN 0 0 0 k)))), (a1, .inl (I, 800, .inl (fun k => nI (0)))), (a2, .inl (I, 800, .inl (fun k => nI (0)))), (a3, .inl (I, 800, .inl (fun k => nI (0)))), (a4, .inl (Z, 22816, .inl (fun k => nI (0)))), (a5, .inl (I, 22816, .inl (fun k => nI (0)))), (a6, .inl (Z, 64, .inl (fun k => nI (0))))] H := hP
  have hD : va_D A [(o, .inr (1, [.ref a0, .int (nI 0), .ref a1, .ref a2, .ref a3, .ref a4, .ref a5, .ref a6, .null, .int (nI 0), .null])), (a0, .inl (I, 3, .inl (fun k => nI (hN 0 0 0 k)))), (a1, .inl (I, 800, .inl (fun k => nI (0)))), (a2, .inl (I, 800, .inl (fun k => nI (0)))), (a3, .inl (I, 800, .inl (fun k => nI (0)))), (a4, .inl (Z, 22816, .inl (fun k => nI (0)))), (a5, .inl (I, 22816, .inl (fun k => nI (0)))), (a6, .inl (Z, 64, .inl (fun k => nI (0))))] := hD
  refine lv_aload_n hx hb dX1_init_64 rfl (lv_at hl 0 rfl) ?_
  refine lv_sipush (v := nI 3721) hx hb dX1_init_65 (by decide) ?_
  refine vn_newa hx hb .boolean (hts _ q207) rfl (Or.inr rfl) 1 rfl hK hP hD hS hA (n := 3721) (by decide) (fun _ => 0) (fun _ => rfl) (Nat.le_of_ble_eq_true rfl) (Nat.le_of_ble_eq_true rfl) (Nat.le_of_ble_eq_true rfl) dX1_init_68 (fun a7 H hP hD hS => ?_)
  have hP : va_P D vwCl [(o, .inr (1, [.ref a0, .int (nI 0), .ref a1, .ref a2, .ref a3, .ref a4, .ref a5, .ref a6, .null, .int (nI 0), .null])), (a0, .inl (I, 3, .inl (fun k => nI (hN 0 0 0 k)))), (a1, .inl (I, 800, .inl (fun k => nI (0)))), (a2, .inl (I, 800, .inl (fun k => nI (0)))), (a3, .inl (I, 800, .inl (fun k => nI (0)))), (a4, .inl (Z, 22816, .inl (fun k => nI (0)))), (a5, .inl (I, 22816, .inl (fun k => nI (0)))), (a6, .inl (Z, 64, .inl (fun k => nI (0)))), (a7, .inl (Z, 3721, .inl (fun k => nI (0))))] H := hP
  have hD : va_D A [(o, .inr (1, [.ref a0, .int (nI 0), .ref a1, .ref a2, .ref a3, .ref a4, .ref a5, .ref a6, .null, .int (nI 0), .null])), (a0, .inl (I, 3, .inl (fun k => nI (hN 0 0 0 k)))), (a1, .inl (I, 800, .inl (fun k => nI (0)))), (a2, .inl (I, 800, .inl (fun k => nI (0)))), (a3, .inl (I, 800, .inl (fun k => nI (0)))), (a4, .inl (Z, 22816, .inl (fun k => nI (0)))), (a5, .inl (I, 22816, .inl (fun k => nI (0)))), (a6, .inl (Z, 64, .inl (fun k => nI (0)))), (a7, .inl (Z, 3721, .inl (fun k => nI (0))))] := hD
  refine W.widen (k := 8) (n := 51820) (Nat.le_of_ble_eq_true rfl) (Nat.le_of_ble_eq_true rfl) ?_
  refine va_put (D := D) (ci := 1) (v := .ref a7) (ty := .array .boolean) (C := RX1) (T := TX1) (N := 11) hx hb hts in_X1 tyX1 tyX1_ok nmX1 hown hK hP hD hS 0 rfl rfl 8 (by decide) (hts _ q181) (fun _ h9 => h9) rfl (by decide +kernel) rfl rfl (Nat.le_of_ble_eq_true rfl) dX1_init_70 (fun H locs hP hD hS => ?_)
  have hP : va_P D vwCl [(o, .inr (1, [.ref a0, .int (nI 0), .ref a1, .ref a2, .ref a3, .ref a4, .ref a5, .ref a6, .ref a7, .int (nI 0), .null])), (a0, .inl (I, 3, .inl (fun k => nI (hN 0 0 0 k)))), (a1, .inl (I, 800, .inl (fun k => nI (0)))), (a2, .inl (I, 800, .inl (fun k => nI (0)))), (a3, .inl (I, 800, .inl (fun k => nI (0)))), (a4, .inl (Z, 22816, .inl (fun k => nI (0)))), (a5, .inl (I, 22816, .inl (fun k => nI (0)))), (a6, .inl (Z, 64, .inl (fun k => nI (0)))), (a7, .inl (Z, 3721, .inl (fun k => nI (0))))] H := hP
  have hD : va_D A [(o, .inr (1, [.ref a0, .int (nI 0), .ref a1, .ref a2, .ref a3, .ref a4, .ref a5, .ref a6, .ref a7, .int (nI 0), .null])), (a0, .inl (I, 3, .inl (fun k => nI (hN 0 0 0 k)))), (a1, .inl (I, 800, .inl (fun k => nI (0)))), (a2, .inl (I, 800, .inl (fun k => nI (0)))), (a3, .inl (I, 800, .inl (fun k => nI (0)))), (a4, .inl (Z, 22816, .inl (fun k => nI (0)))), (a5, .inl (I, 22816, .inl (fun k => nI (0)))), (a6, .inl (Z, 64, .inl (fun k => nI (0)))), (a7, .inl (Z, 3721, .inl (fun k => nI (0))))] := hD
  refine lv_aload_n hx hb dX1_init_73 rfl (lv_at hl 0 rfl) ?_
  refine lv_sipush (v := nI 800) hx hb dX1_init_74 (by decide) ?_
  refine vn_newa hx hb .int (hts _ q57) rfl (Or.inl rfl) 0 rfl hK hP hD hS hA (n := 800) (by decide) (fun _ => 0) (fun _ => rfl) (Nat.le_of_ble_eq_true rfl) (Nat.le_of_ble_eq_true rfl) (Nat.le_of_ble_eq_true rfl) dX1_init_77 (fun a8 H hP hD hS => ?_)
  have hP : va_P D vwCl [(o, .inr (1, [.ref a0, .int (nI 0), .ref a1, .ref a2, .ref a3, .ref a4, .ref a5, .ref a6, .ref a7, .int (nI 0), .null])), (a0, .inl (I, 3, .inl (fun k => nI (hN 0 0 0 k)))), (a1, .inl (I, 800, .inl (fun k => nI (0)))), (a2, .inl (I, 800, .inl (fun k => nI (0)))), (a3, .inl (I, 800, .inl (fun k => nI (0)))), (a4, .inl (Z, 22816, .inl (fun k => nI (0)))), (a5, .inl (I, 22816, .inl (fun k => nI (0)))), (a6, .inl (Z, 64, .inl (fun k => nI (0)))), (a7, .inl (Z, 3721, .inl (fun k => nI (0)))), (a8, .inl (I, 800, .inl (fun k => nI (0))))] H := hP
  have hD : va_D A [(o, .inr (1, [.ref a0, .int (nI 0), .ref a1, .ref a2, .ref a3, .ref a4, .ref a5, .ref a6, .ref a7, .int (nI 0), .null])), (a0, .inl (I, 3, .inl (fun k => nI (hN 0 0 0 k)))), (a1, .inl (I, 800, .inl (fun k => nI (0)))), (a2, .inl (I, 800, .inl (fun k => nI (0)))), (a3, .inl (I, 800, .inl (fun k => nI (0)))), (a4, .inl (Z, 22816, .inl (fun k => nI (0)))), (a5, .inl (I, 22816, .inl (fun k => nI (0)))), (a6, .inl (Z, 64, .inl (fun k => nI (0)))), (a7, .inl (Z, 3721, .inl (fun k => nI (0)))), (a8, .inl (I, 800, .inl (fun k => nI (0))))] := hD
  refine W.widen (k := 9) (n := 52620) (Nat.le_of_ble_eq_true rfl) (Nat.le_of_ble_eq_true rfl) ?_
  refine va_put (D := D) (ci := 1) (v := .ref a8) (ty := .array .int) (C := RX1) (T := TX1) (N := 11) hx hb hts in_X1 tyX1 tyX1_ok nmX1 hown hK hP hD hS 0 rfl rfl 10 (by decide) (hts _ q183) (fun _ h9 => h9) rfl (by decide +kernel) rfl rfl (Nat.le_of_ble_eq_true rfl) dX1_init_79 (fun H locs hP hD hS => ?_)
  have hP : va_P D vwCl [(o, .inr (1, [.ref a0, .int (nI 0), .ref a1, .ref a2, .ref a3, .ref a4, .ref a5, .ref a6, .ref a7, .int (nI 0), .ref a8])), (a0, .inl (I, 3, .inl (fun k => nI (hN 0 0 0 k)))), (a1, .inl (I, 800, .inl (fun k => nI (0)))), (a2, .inl (I, 800, .inl (fun k => nI (0)))), (a3, .inl (I, 800, .inl (fun k => nI (0)))), (a4, .inl (Z, 22816, .inl (fun k => nI (0)))), (a5, .inl (I, 22816, .inl (fun k => nI (0)))), (a6, .inl (Z, 64, .inl (fun k => nI (0)))), (a7, .inl (Z, 3721, .inl (fun k => nI (0)))), (a8, .inl (I, 800, .inl (fun k => nI (0))))] H := hP
  have hD : va_D A [(o, .inr (1, [.ref a0, .int (nI 0), .ref a1, .ref a2, .ref a3, .ref a4, .ref a5, .ref a6, .ref a7, .int (nI 0), .ref a8])), (a0, .inl (I, 3, .inl (fun k => nI (hN 0 0 0 k)))), (a1, .inl (I, 800, .inl (fun k => nI (0)))), (a2, .inl (I, 800, .inl (fun k => nI (0)))), (a3, .inl (I, 800, .inl (fun k => nI (0)))), (a4, .inl (Z, 22816, .inl (fun k => nI (0)))), (a5, .inl (I, 22816, .inl (fun k => nI (0)))), (a6, .inl (Z, 64, .inl (fun k => nI (0)))), (a7, .inl (Z, 3721, .inl (fun k => nI (0)))), (a8, .inl (I, 800, .inl (fun k => nI (0))))] := hD
  have hP9 : va_P D vwCl (cells1 (l, D, I, Z, o, (fun k => if k = 0 then a0 else if k = 1 then a1 else if k = 2 then a2 else if k = 3 then a3 else if k = 4 then a4 else if k = 5 then a5 else if k = 6 then a6 else if k = 7 then a7 else a8)) z1S) H := hP
  have hD9 : va_D A (cells1 (l, D, I, Z, o, (fun k => if k = 0 then a0 else if k = 1 then a1 else if k = 2 then a2 else if k = 3 then a3 else if k = 4 then a4 else if k = 5 then a5 else if k = 6 then a6 else if k = 7 then a7 else a8)) z1S) := hD
  exact W.vret hx hb hr (fun t ht hW => ⟨⟨(fun k => if k = 0 then a0 else if k = 1 then a1 else if k = 2 then a2 else if k = 3 then a3 else if k = 4 then a4 else if k = 5 then a5 else if k = 6 then a6 else if k = 7 then a7 else a8), rfl, trivial, by rw [ht]; exact hP9, va_K.moved hW.alike hK, hD9⟩, hS.F ht⟩) hS.2.2 dX1_init_82
end
section
set_option maxRecDepth 100000
/-! THE CLAIM OUT OF ONE WALK OF THE LAW'S BODY. Your part is whole_start (and what it stands on); all else here is the same for every law, but numbers. -/
def R_law : String := "HeapGamesLaw"
def lw_P (b : Addr) (xs : List Int32) (args : Array Value) (s : State) : Prop := args = #[.ref b] ∧ s.IntsAt b xs ∧ xs.length ≤ 192 ∧ (Jvm.Cond.and given_1 narrow_1).before args s = true
def lw_Q (_ : Array Value) (s : State) (o : Outcome) (t : State) : Prop := o = .returned (some (.int 1)) ∧ Framed s o t [] 600000 7290000
def lw_Z (below : List Frame) (a : Array Value) (s : State) : State → Prop := fun t => ∃ o, t.status = .running ∧ Ended t below o ∧ lw_Q a s o t
/-- the law's own end, with 1 on the stack, nothing written that was there before, its room as the claim has it -/
theorem lw_ret {p : Program} {l : Launch} {e : Env} {s : State} {m : MethodId} {below : List Frame} {meth : Method} {c : Code} {b : Nat} (hx : p.tables.exec = Jvm.exec) (hb : c.code = code) (hr : meth.sig.returnType = ret) (hlocks : meth.locks = false) {pc : Nat} {H : Heap} {ls : Array Slot} (hdg : decode code pc = .ok (.ireturn, 1)) : W p l e room_1 s m #[Value.ref b] below meth c H [] 600000 7290000 (lw_Z below #[Value.ref b] s) (F0 m pc ls [.int 1]) := by
  intro T hT X
  obtain ⟨fs, hret, hrun, hended, hW, hframe⟩ := X.leave (v := some (.int 1)) (hlocks := hlocks) (fun h => by rw [hr] at h; cases h)
  have hmeth' : T.vm.method? m = some meth := X.method'
  refine ⟨T.setFrames fs, ?_, .returned (some (.int 1)), hrun, hended, rfl, ⟨_, rfl⟩, hW, hframe⟩
  jvm_step X.here [X.here.top, hx, hb, hdg, hmeth', hr, ret, narrow_b1]
  (try refine ⟨rfl, ?_⟩); (try refine ⟨rfl, ?_⟩)
  first | (intro acts; rw [hret _ acts rfl rfl rfl]) | rw [hret _ _ rfl rfl rfl]
  exact Steps.refl _
/-- what holds at the law's entry: the machine, the code, the tables' words (any of lw_tbl by 'hts w (by decide +kernel)'), the script of L ints xs at the cell b, what the Statement gives of the start (any of its parts by flat_of_before) -/
def lw_At (p : Program) (s : State) (m : MethodId) (meth : Method) (c : Code) (b L : Nat) (xs : Nat → Int32) : Prop :=
  p.tables.exec = Jvm.exec ∧ c.code = code ∧ meth.sig.returnType = ret ∧ c.maxLocals = 4 ∧ s.vm.findClass R_law = some m.cls ∧ (∀ w ∈ lw_tbl, w.before #[Value.ref b] s = true) ∧ va_X b L xs s s.heap ∧ b < s.heap.size ∧ meth.locks = false ∧ (Jvm.Cond.and given_1 narrow_1).before #[Value.ref b] s = true
/-! THE LAW'S ROWS -/
def lcells (g0 g1 : GG) (u : S0 × S1) : va_W := cells0 g0 u.1 ++ cells1 g1 u.2
section LROWS
variable {l : Launch} {D : va_G} {I Z : ClassId} {o0 o1 : Nat} {f0 f1 : Nat → Nat} {F : Fx} {Q : State → Prop} {u0 : S0} {u1 : S1} {u : S0 × S1} {pc lvl : Nat} {lv : List (Option Value)} {stk : List Value} {cc : ByteArray} {own : String} {tys : List (ClassId × FieldType)} {b L : Nat} {xs : Nat → Int32}
abbrev ZL (l : Launch) (D : va_G) (I Z : ClassId) (o0 o1 : Nat) (f0 f1 : Nat → Nat) (F : Fx) (Q : State → Prop) (u : S0 × S1) (pc : Nat) (lv : List (Option Value)) (stk : List Value) : Prop := ZZ l D F Q 4 (lcells (l, D, I, Z, o0, f0) (l, D, I, Z, o1, f1)) u pc lv stk
theorem zl_sld (E : EE D tys F cc 4 own lvl) (hX : va_X b L xs (fs F) (fs F).heap) (hbl : b < (fs F).heap.size) (hbA : ¬ fA F b) {i : Nat} (hi : i < L) (hL : L < 2147483648) (hdg : decode cc pc = .ok (.iaload, 1)) (k : ZL l D I Z o0 o1 f0 f1 F Q u (pc + 1) lv (.int (xs i) :: stk)) : ZL l D I Z o0 o1 f0 f1 F Q u pc lv (.int (nI i) :: .ref b :: stk) := by
  intro H locs ls hP hD hS hl
  refine va_sld E.1 E.2.1 hX hbl hbA hS (vp_in_nI hi hL) hdg ?_
  rw [nI_clamp (show i < 2 ^ 31 by omega)]
  exact k H locs ls hP hD hS hl
theorem zl_slen (E : EE D tys F cc 4 own lvl) (hX : va_X b L xs (fs F) (fs F).heap) (hbl : b < (fs F).heap.size) (hbA : ¬ fA F b) (hdg : decode cc pc = .ok (.arraylength, 1)) (k : ZL l D I Z o0 o1 f0 f1 F Q u (pc + 1) lv (.int (nI L) :: stk)) : ZL l D I Z o0 o1 f0 f1 F Q u pc lv (.ref b :: stk) :=
  fun H locs ls hP hD hS hl => va_slen E.1 E.2.1 hX hbl hbA hS hdg (k H locs ls hP hD hS hl)
theorem zl_tab (E : EE D tys F cc 4 own lvl) {dflt lo hi : Int} {offs : Array Int} {len : Nat} {x : Int32} {off : Int} (tgt : Nat) (hdg : decode cc pc = .ok (.tableswitch dflt lo hi offs, len)) (h1 : ¬ x.toInt < lo) (h2 : ¬ hi < x.toInt) (ho : offs[(x.toInt - lo).toNat]? = some off) (ht : (pc : Int) + off = (tgt : Int)) (k : ZL l D I Z o0 o1 f0 f1 F Q u tgt lv stk) : ZL l D I Z o0 o1 f0 f1 F Q u pc lv (.int x :: stk) :=
  fun H locs ls hP hD hS hl => lv_tableIn E.1 E.2.1 hdg h1 h2 ho ht (k H locs ls hP hD hS hl)
theorem zl_c0 {y : MethodName} {cd : ByteArray} {nL' j n index : Nat} {As rest : List Value} {post : Int32 → S0 → Prop} (E : EE D [(I, .int), (Z, .boolean)] F cc 4 own lvl) (hM : C0I (l, D, I, Z, o0, f0) y cd nL' .int j As u0 post) (hq : GoodIn lw_all (wsV own index RX0 y (ws_ y cd nL' (some .int)))) (hd : hdOk y RX0 n) (hlen : As.length = n) (hj : j < lvl) (hm : nL' ≤ 21) (hrest : (rest.map fun v => v.category).sum ≤ 8) (hstk : stk = As.reverse ++ .ref o0 :: rest) (hdg : decode cc pc = .ok (.invokevirtual index, 3))
    (kk : ∀ (r : Int32) (v : S0), post r v → ZL l D I Z o0 o1 f0 f1 F Q (v, u1) (pc + 3) lv (.int r :: rest)) : ZL l D I Z o0 o1 f0 f1 F Q (u0, u1) pc lv stk := by
  intro H locs ls hP hD hS hl
  obtain ⟨hx, hb, hml, hown, hts, hK, hA, h1, h2, h3, h4⟩ := E
  have hPc : va_P D vwCl (cells0 (l, D, I, Z, o0, f0) u0) H := hP.sub [0, 1, 2] rfl
  have hDc : va_D (fA F) (cells0 (l, D, I, Z, o0, f0) u0) := hD.sub [0, 1, 2] (by decide) rfl
  have hFc := va_free (wc := cells0 (l, D, I, Z, o0, f0) u0) hD hS hA [0, 1, 2] rfl
  refine va_calli (va_runV (As := As) (rest := rest) ⟨hx, hb, hml, hown, hts⟩ (hM H.size) (cwV n hts hq rfl rfl rfl hd ⟨by simp only [rmN]; omega, by simp only [rmN]; omega⟩) (PP.pre (cells := cells0 (l, D, I, Z, o0, f0)) hK hPc hDc rfl rfl) rfl hlen (by show ls.size = 4; exact hl.1) hstk (lv_room (m := fm F) (pc := pc) (ls := ls) (rest := stk) hrest) hdg ⟨h3, h4⟩) hS (fun q _ h => hFc q h) hFc (fun r v t H1 locs1 ht hvm hp hB hz1 hk1 hS1 => ?_)
  have hP1 : va_P D vwCl (cells0 (l, D, I, Z, o0, f0) v) H1 := by rw [← ht]; exact hB.1
  obtain ⟨hP2, hD2⟩ := va_join (wr := cells1 (l, D, I, Z, o1, f1) u1) (w1 := cells0 (l, D, I, Z, o0, f0) v) hP hD [0, 1, 2] [3, 4, 5, 6, 7, 8, 9, 10, 11, 12] rfl rfl (by decide) (by decide) hk1 hFc hP1 hB.2.2
  exact kk r v hp H1 locs1 ls (hP2.sub [10, 11, 12, 0, 1, 2, 3, 4, 5, 6, 7, 8, 9] rfl) (hD2.sub [10, 11, 12, 0, 1, 2, 3, 4, 5, 6, 7, 8, 9] (by decide) rfl) hS1 hl
theorem zl_c1 {y : MethodName} {cd : ByteArray} {nL' j n index : Nat} {As rest : List Value} {post : Int32 → S1 → Prop} (E : EE D [(I, .int), (Z, .boolean)] F cc 4 own lvl) (hM : C1I (l, D, I, Z, o1, f1) y cd nL' .int j As u1 post) (hq : GoodIn lw_all (wsV own index RX1 y (ws_ y cd nL' (some .int)))) (hd : hdOk y RX1 n) (hlen : As.length = n) (hj : j < lvl) (hm : nL' ≤ 21) (hrest : (rest.map fun v => v.category).sum ≤ 8) (hstk : stk = As.reverse ++ .ref o1 :: rest) (hdg : decode cc pc = .ok (.invokevirtual index, 3))
    (kk : ∀ (r : Int32) (v : S1), post r v → ZL l D I Z o0 o1 f0 f1 F Q (u0, v) (pc + 3) lv (.int r :: rest)) : ZL l D I Z o0 o1 f0 f1 F Q (u0, u1) pc lv stk := by
  intro H locs ls hP hD hS hl
  obtain ⟨hx, hb, hml, hown, hts, hK, hA, h1, h2, h3, h4⟩ := E
  have hPc : va_P D vwCl (cells1 (l, D, I, Z, o1, f1) u1) H := hP.sub [3, 4, 5, 6, 7, 8, 9, 10, 11, 12] rfl
  have hDc : va_D (fA F) (cells1 (l, D, I, Z, o1, f1) u1) := hD.sub [3, 4, 5, 6, 7, 8, 9, 10, 11, 12] (by decide) rfl
  have hFc := va_free (wc := cells1 (l, D, I, Z, o1, f1) u1) hD hS hA [3, 4, 5, 6, 7, 8, 9, 10, 11, 12] rfl
  refine va_calli (va_runV (As := As) (rest := rest) ⟨hx, hb, hml, hown, hts⟩ (hM H.size) (cwV n hts hq rfl rfl rfl hd ⟨by simp only [rmN]; omega, by simp only [rmN]; omega⟩) (PP.pre (cells := cells1 (l, D, I, Z, o1, f1)) hK hPc hDc rfl rfl) rfl hlen (by show ls.size = 4; exact hl.1) hstk (lv_room (m := fm F) (pc := pc) (ls := ls) (rest := stk) hrest) hdg ⟨h3, h4⟩) hS (fun q _ h => hFc q h) hFc (fun r v t H1 locs1 ht hvm hp hB hz1 hk1 hS1 => ?_)
  have hP1 : va_P D vwCl (cells1 (l, D, I, Z, o1, f1) v) H1 := by rw [← ht]; exact hB.1
  obtain ⟨hP2, hD2⟩ := va_join (wr := cells0 (l, D, I, Z, o0, f0) u0) (w1 := cells1 (l, D, I, Z, o1, f1) v) hP hD [3, 4, 5, 6, 7, 8, 9, 10, 11, 12] [0, 1, 2] rfl rfl (by decide) (by decide) hk1 hFc hP1 hB.2.2
  exact kk r v hp H1 locs1 ls hP2 hD2 hS1 hl
end LROWS
theorem len3 {L i : Nat} (hL : L ≤ 192) (hi : i ≤ 200) (h : ¬ (nI L - nI 3 < nI i)) : i + 3 ≤ L := by
  rcases Nat.lt_or_ge L 3 with q | q
  · have h1 := pk_sneg (a := L) (b := 3) (by decide) q
    have h2 := nI_pos' (n := i) (by omega)
    rw [Int32.lt_iff_toInt_lt] at h h1
    rw [Int32.le_iff_toInt_le] at h2
    exfalso
    omega
  · rw [pk_sub q] at h
    have h2 : ¬ L - 3 < i := fun e => h ((nI_ltI (by omega) (by omega)).mpr e)
    omega
theorem and7 (v : Int32) : ∃ k : Nat, k ≤ 7 ∧ v &&& nI 7 = nI k := by
  refine ⟨(v &&& nI 7).toBitVec.toNat, ?_, ?_⟩
  · rw [Int32.toBitVec_and, BitVec.toNat_and, pk_tn (n := 7) (by decide)]
    exact Nat.and_le_right
  · apply Int32.toBitVec_inj.mp
    apply BitVec.eq_of_toNat_eq
    rw [pk_tn (BitVec.isLt _)]
set_option maxHeartbeats 4000000 in
set_option maxRecDepth 100000 in
theorem law_heap {l : Launch} {D : va_G} {I Z : ClassId} {o0 o1 : Nat} {f0 f1 : Nat → Nat} {F : Fx} {Q : State → Prop} {b L : Nat} {xs : Nat → Int32} (hL : L ≤ 192) (E : EE D [(I, .int), (Z, .boolean)] F cL_law 4 R_law 9) (hX : va_X b L xs (fs F) (fs F).heap) (hbl : b < (fs F).heap.size) (hbA : ¬ fA F b) {i a b' c n n1 d1 : Nat} {mv X Y U W V K M N : Nat → Nat} (hi : i + 3 ≤ L) (ha : a ≤ 15) (hb : b' ≤ 15) (hc : c ≤ 15) (hW : ∀ k, W k ≤ 1)
    (kk : ∀ (v0 : S0) (v1 : S1), (∃ (a b' c n : Nat) (mv : Nat → Nat), v0 = (a, b', c, n, mv) ∧ a ≤ 15 ∧ b' ≤ 15 ∧ c ≤ 15 ∧ StpM a b' c v1) → ZL l D I Z o0 o1 f0 f1 F Q (v0, v1) 294 [some (.ref b), some (.ref o0), some (.ref o1), some (.int (nI i))] []) : ZL l D I Z o0 o1 f0 f1 F Q ((a, b', c, n, mv), (a, b', c, n1, X, Y, U, W, V, K, M, d1, N)) 80 [some (.ref b), some (.ref o0), some (.ref o1), some (.int (nI i))] [] := by
  refine z_ald1 E dL_law_80 ?_
  refine z_ald0 E dL_law_81 ?_
  refine z_ild3 E dL_law_82 ?_
  refine z_ic1 E dL_law_83 ?_
  refine z_iadd E dL_law_84 ?_
  refine zl_sld E hX hbl hbA (show i + 1 < L by omega) (by omega) dL_law_85 ?_
  refine z_ald0 E dL_law_86 ?_
  refine z_ild3 E dL_law_87 ?_
  refine z_ic2 E dL_law_88 ?_
  refine z_iadd E dL_law_89 ?_
  refine zl_sld E hX hbl hbA (show i + 2 < L by omega) (by omega) dL_law_90 ?_
  refine zl_c0 (As := [.int (xs (i + 1)), .int (xs (i + 2))]) (rest := []) E (m0_heap (l, D, I, Z, o0, f0) a b' c n mv (xs (i + 1)) (xs (i + 2))) (lw_V q58 q59 q60 q37 q61) hdX0_heap rfl (by decide) (by decide) (Nat.le_of_ble_eq_true rfl) rfl dL_law_91 (fun r0 v0 h0 => ?_)
  refine z_ald2 E dL_law_94 ?_
  refine z_ald0 E dL_law_95 ?_
  refine z_ild3 E dL_law_96 ?_
  refine z_ic1 E dL_law_97 ?_
  refine z_iadd E dL_law_98 ?_
  refine zl_sld E hX hbl hbA (show i + 1 < L by omega) (by omega) dL_law_99 ?_
  refine z_ald0 E dL_law_100 ?_
  refine z_ild3 E dL_law_101 ?_
  refine z_ic2 E dL_law_102 ?_
  refine z_iadd E dL_law_103 ?_
  refine zl_sld E hX hbl hbA (show i + 2 < L by omega) (by omega) dL_law_104 ?_
  refine zl_c1 (As := [.int (xs (i + 1)), .int (xs (i + 2))]) (rest := [.int r0]) E (m1_heap (l, D, I, Z, o1, f1) a b' c n1 X Y U W V K M d1 N (xs (i + 1)) (xs (i + 2))) (lw_V q208 q209 q210 q38 q211) hdX1_heap rfl (by decide) (by decide) (Nat.le_of_ble_eq_true rfl) rfl dL_law_105 (fun r1 v1 h1 => ?_)
  have hag := ag_heap hW ha hb hc h0 h1
  refine zr_icmp_eq E 294 dL_law_108 (by decide) (fun cc => ?_) (fun cc => absurd hag.1 cc)
  exact kk v0 v1 hag.2
set_option maxHeartbeats 4000000 in
set_option maxRecDepth 100000 in
theorem law_has {l : Launch} {D : va_G} {I Z : ClassId} {o0 o1 : Nat} {f0 f1 : Nat → Nat} {F : Fx} {Q : State → Prop} {b L : Nat} {xs : Nat → Int32} (hL : L ≤ 192) (E : EE D [(I, .int), (Z, .boolean)] F cL_law 4 R_law 9) (hX : va_X b L xs (fs F) (fs F).heap) (hbl : b < (fs F).heap.size) (hbA : ¬ fA F b) {i a b' c n n1 d1 : Nat} {mv X Y U W V K M N : Nat → Nat} (hi : i + 3 ≤ L) (ha : a ≤ 15) (hb : b' ≤ 15) (hc : c ≤ 15) (hW : ∀ k, W k ≤ 1)
    (kk : ∀ (v0 : S0) (v1 : S1), (∃ (a b' c n : Nat) (mv : Nat → Nat), v0 = (a, b', c, n, mv) ∧ a ≤ 15 ∧ b' ≤ 15 ∧ c ≤ 15 ∧ StpM a b' c v1) → ZL l D I Z o0 o1 f0 f1 F Q (v0, v1) 294 [some (.ref b), some (.ref o0), some (.ref o1), some (.int (nI i))] []) : ZL l D I Z o0 o1 f0 f1 F Q ((a, b', c, n, mv), (a, b', c, n1, X, Y, U, W, V, K, M, d1, N)) 113 [some (.ref b), some (.ref o0), some (.ref o1), some (.int (nI i))] [] := by
  refine z_ald1 E dL_law_113 ?_
  refine z_ald0 E dL_law_114 ?_
  refine z_ild3 E dL_law_115 ?_
  refine z_ic1 E dL_law_116 ?_
  refine z_iadd E dL_law_117 ?_
  refine zl_sld E hX hbl hbA (show i + 1 < L by omega) (by omega) dL_law_118 ?_
  refine zl_c0 (As := [.int (xs (i + 1))]) (rest := []) E (m0_has (l, D, I, Z, o0, f0) a b' c n mv (xs (i + 1))) (lw_V q66 q67 q68 q37 q69) hdX0_has rfl (by decide) (by decide) (Nat.le_of_ble_eq_true rfl) rfl dL_law_119 (fun r0 v0 h0 => ?_)
  refine z_ald2 E dL_law_122 ?_
  refine z_ald0 E dL_law_123 ?_
  refine z_ild3 E dL_law_124 ?_
  refine z_ic1 E dL_law_125 ?_
  refine z_iadd E dL_law_126 ?_
  refine zl_sld E hX hbl hbA (show i + 1 < L by omega) (by omega) dL_law_127 ?_
  refine zl_c1 (As := [.int (xs (i + 1))]) (rest := [.int r0]) E (m1_has (l, D, I, Z, o1, f1) a b' c n1 X Y U W V K M d1 N (xs (i + 1))) (lw_V q212 q213 q214 q38 q215) hdX1_has rfl (by decide) (by decide) (Nat.le_of_ble_eq_true rfl) rfl dL_law_128 (fun r1 v1 h1 => ?_)
  have hag := ag_has hW ha hb hc h0 h1
  refine zr_icmp_eq E 294 dL_law_131 (by decide) (fun cc => ?_) (fun cc => absurd hag.1 cc)
  exact kk v0 v1 hag.2
set_option maxHeartbeats 4000000 in
set_option maxRecDepth 100000 in
theorem law_won {l : Launch} {D : va_G} {I Z : ClassId} {o0 o1 : Nat} {f0 f1 : Nat → Nat} {F : Fx} {Q : State → Prop} {b L : Nat} {xs : Nat → Int32} (hL : L ≤ 192) (E : EE D [(I, .int), (Z, .boolean)] F cL_law 4 R_law 9) (hX : va_X b L xs (fs F) (fs F).heap) (hbl : b < (fs F).heap.size) (hbA : ¬ fA F b) {i a b' c n n1 d1 : Nat} {mv X Y U W V K M N : Nat → Nat} (hi : i + 3 ≤ L) (ha : a ≤ 15) (hb : b' ≤ 15) (hc : c ≤ 15) (hW : ∀ k, W k ≤ 1)
    (kk : ∀ (v0 : S0) (v1 : S1), (∃ (a b' c n : Nat) (mv : Nat → Nat), v0 = (a, b', c, n, mv) ∧ a ≤ 15 ∧ b' ≤ 15 ∧ c ≤ 15 ∧ StpM a b' c v1) → ZL l D I Z o0 o1 f0 f1 F Q (v0, v1) 294 [some (.ref b), some (.ref o0), some (.ref o1), some (.int (nI i))] []) : ZL l D I Z o0 o1 f0 f1 F Q ((a, b', c, n, mv), (a, b', c, n1, X, Y, U, W, V, K, M, d1, N)) 136 [some (.ref b), some (.ref o0), some (.ref o1), some (.int (nI i))] [] := by
  refine z_ald1 E dL_law_136 ?_
  refine z_ald0 E dL_law_137 ?_
  refine z_ild3 E dL_law_138 ?_
  refine z_ic1 E dL_law_139 ?_
  refine z_iadd E dL_law_140 ?_
  refine zl_sld E hX hbl hbA (show i + 1 < L by omega) (by omega) dL_law_141 ?_
  refine zl_c0 (As := [.int (xs (i + 1))]) (rest := []) E (m0_won (l, D, I, Z, o0, f0) a b' c n mv ha hb hc (xs (i + 1))) (lw_V q70 q71 q72 q37 q73) hdX0_won rfl (by decide) (by decide) (Nat.le_of_ble_eq_true rfl) rfl dL_law_142 (fun r0 v0 h0 => ?_)
  refine z_ald2 E dL_law_145 ?_
  refine z_ald0 E dL_law_146 ?_
  refine z_ild3 E dL_law_147 ?_
  refine z_ic1 E dL_law_148 ?_
  refine z_iadd E dL_law_149 ?_
  refine zl_sld E hX hbl hbA (show i + 1 < L by omega) (by omega) dL_law_150 ?_
  refine zl_c1 (As := [.int (xs (i + 1))]) (rest := [.int r0]) E (m1_won (l, D, I, Z, o1, f1) a b' c n1 X Y U W V K M d1 N ha hb hc hW (xs (i + 1))) (lw_V q216 q217 q218 q38 q219) hdX1_won rfl (by decide) (by decide) (Nat.le_of_ble_eq_true rfl) rfl dL_law_151 (fun r1 v1 h1 => ?_)
  have hag := ag_won ha hb hc h0 h1
  refine zr_icmp_eq E 294 dL_law_154 (by decide) (fun cc => ?_) (fun cc => absurd hag.1 cc)
  exact kk v0 v1 hag.2
set_option maxHeartbeats 4000000 in
set_option maxRecDepth 100000 in
theorem law_moves {l : Launch} {D : va_G} {I Z : ClassId} {o0 o1 : Nat} {f0 f1 : Nat → Nat} {F : Fx} {Q : State → Prop} {b L : Nat} {xs : Nat → Int32} (hL : L ≤ 192) (E : EE D [(I, .int), (Z, .boolean)] F cL_law 4 R_law 9) (hX : va_X b L xs (fs F) (fs F).heap) (hbl : b < (fs F).heap.size) (hbA : ¬ fA F b) {i a b' c n n1 d1 : Nat} {mv X Y U W V K M N : Nat → Nat} (hi : i + 3 ≤ L) (ha : a ≤ 15) (hb : b' ≤ 15) (hc : c ≤ 15) (hW : ∀ k, W k ≤ 1)
    (kk : ∀ (v0 : S0) (v1 : S1), (∃ (a b' c n : Nat) (mv : Nat → Nat), v0 = (a, b', c, n, mv) ∧ a ≤ 15 ∧ b' ≤ 15 ∧ c ≤ 15 ∧ StpM a b' c v1) → ZL l D I Z o0 o1 f0 f1 F Q (v0, v1) 294 [some (.ref b), some (.ref o0), some (.ref o1), some (.int (nI i))] []) : ZL l D I Z o0 o1 f0 f1 F Q ((a, b', c, n, mv), (a, b', c, n1, X, Y, U, W, V, K, M, d1, N)) 159 [some (.ref b), some (.ref o0), some (.ref o1), some (.int (nI i))] [] := by
  refine z_ald1 E dL_law_159 ?_
  refine z_ald0 E dL_law_160 ?_
  refine z_ild3 E dL_law_161 ?_
  refine z_ic1 E dL_law_162 ?_
  refine z_iadd E dL_law_163 ?_
  refine zl_sld E hX hbl hbA (show i + 1 < L by omega) (by omega) dL_law_164 ?_
  refine zl_c0 (As := [.int (xs (i + 1))]) (rest := []) E (m0_moves (l, D, I, Z, o0, f0) a b' c n mv ha hb hc (xs (i + 1))) (lw_V q110 q111 q112 q37 q113) hdX0_moves rfl (by decide) (by decide) (Nat.le_of_ble_eq_true rfl) rfl dL_law_165 (fun r0 v0 h0 => ?_)
  refine z_ald2 E dL_law_168 ?_
  refine z_ald0 E dL_law_169 ?_
  refine z_ild3 E dL_law_170 ?_
  refine z_ic1 E dL_law_171 ?_
  refine z_iadd E dL_law_172 ?_
  refine zl_sld E hX hbl hbA (show i + 1 < L by omega) (by omega) dL_law_173 ?_
  refine zl_c1 (As := [.int (xs (i + 1))]) (rest := [.int r0]) E (m1_moves (l, D, I, Z, o1, f1) a b' c n1 X Y U W V K M d1 N ha hb hc hW (xs (i + 1))) (lw_V q288 q289 q290 q38 q291) hdX1_moves rfl (by decide) (by decide) (Nat.le_of_ble_eq_true rfl) rfl dL_law_174 (fun r1 v1 h1 => ?_)
  have hag := ag_moves ha hb hc h0 h1
  refine zr_icmp_eq E 294 dL_law_177 (by decide) (fun cc => ?_) (fun cc => absurd hag.1 cc)
  exact kk v0 v1 hag.2
set_option maxHeartbeats 4000000 in
set_option maxRecDepth 100000 in
theorem law_winning {l : Launch} {D : va_G} {I Z : ClassId} {o0 o1 : Nat} {f0 f1 : Nat → Nat} {F : Fx} {Q : State → Prop} {b L : Nat} {xs : Nat → Int32} (hL : L ≤ 192) (E : EE D [(I, .int), (Z, .boolean)] F cL_law 4 R_law 9) (hX : va_X b L xs (fs F) (fs F).heap) (hbl : b < (fs F).heap.size) (hbA : ¬ fA F b) {i a b' c n n1 d1 : Nat} {mv X Y U W V K M N : Nat → Nat} (hi : i + 3 ≤ L) (ha : a ≤ 15) (hb : b' ≤ 15) (hc : c ≤ 15) (hW : ∀ k, W k ≤ 1)
    (kk : ∀ (v0 : S0) (v1 : S1), (∃ (a b' c n : Nat) (mv : Nat → Nat), v0 = (a, b', c, n, mv) ∧ a ≤ 15 ∧ b' ≤ 15 ∧ c ≤ 15 ∧ StpM a b' c v1) → ZL l D I Z o0 o1 f0 f1 F Q (v0, v1) 294 [some (.ref b), some (.ref o0), some (.ref o1), some (.int (nI i))] []) : ZL l D I Z o0 o1 f0 f1 F Q ((a, b', c, n, mv), (a, b', c, n1, X, Y, U, W, V, K, M, d1, N)) 182 [some (.ref b), some (.ref o0), some (.ref o1), some (.int (nI i))] [] := by
  refine z_ald1 E dL_law_182 ?_
  refine z_ald0 E dL_law_183 ?_
  refine z_ild3 E dL_law_184 ?_
  refine z_ic1 E dL_law_185 ?_
  refine z_iadd E dL_law_186 ?_
  refine zl_sld E hX hbl hbA (show i + 1 < L by omega) (by omega) dL_law_187 ?_
  refine zl_c0 (As := [.int (xs (i + 1))]) (rest := []) E (m0_winning (l, D, I, Z, o0, f0) a b' c n mv ha hb hc (xs (i + 1))) (lw_V q150 q151 q152 q37 q153) hdX0_winning rfl (by decide) (by decide) (Nat.le_of_ble_eq_true rfl) rfl dL_law_188 (fun r0 v0 h0 => ?_)
  refine z_ald2 E dL_law_191 ?_
  refine z_ald0 E dL_law_192 ?_
  refine z_ild3 E dL_law_193 ?_
  refine z_ic1 E dL_law_194 ?_
  refine z_iadd E dL_law_195 ?_
  refine zl_sld E hX hbl hbA (show i + 1 < L by omega) (by omega) dL_law_196 ?_
  refine zl_c1 (As := [.int (xs (i + 1))]) (rest := [.int r0]) E (m1_winning (l, D, I, Z, o1, f1) a b' c n1 X Y U W V K M d1 N ha hb hc hW (xs (i + 1))) (lw_V q292 q293 q294 q38 q295) hdX1_winning rfl (by decide) (by decide) (Nat.le_of_ble_eq_true rfl) rfl dL_law_197 (fun r1 v1 h1 => ?_)
  have hag := ag_winning ha hb hc h0 h1
  refine zr_icmp_eq E 294 dL_law_200 (by decide) (fun cc => ?_) (fun cc => absurd hag.1 cc)
  exact kk v0 v1 hag.2
set_option maxHeartbeats 4000000 in
set_option maxRecDepth 100000 in
theorem law_winningMove {l : Launch} {D : va_G} {I Z : ClassId} {o0 o1 : Nat} {f0 f1 : Nat → Nat} {F : Fx} {Q : State → Prop} {b L : Nat} {xs : Nat → Int32} (hL : L ≤ 192) (E : EE D [(I, .int), (Z, .boolean)] F cL_law 4 R_law 9) (hX : va_X b L xs (fs F) (fs F).heap) (hbl : b < (fs F).heap.size) (hbA : ¬ fA F b) {i a b' c n n1 d1 : Nat} {mv X Y U W V K M N : Nat → Nat} (hi : i + 3 ≤ L) (ha : a ≤ 15) (hb : b' ≤ 15) (hc : c ≤ 15) (hW : ∀ k, W k ≤ 1)
    (kk : ∀ (v0 : S0) (v1 : S1), (∃ (a b' c n : Nat) (mv : Nat → Nat), v0 = (a, b', c, n, mv) ∧ a ≤ 15 ∧ b' ≤ 15 ∧ c ≤ 15 ∧ StpM a b' c v1) → ZL l D I Z o0 o1 f0 f1 F Q (v0, v1) 294 [some (.ref b), some (.ref o0), some (.ref o1), some (.int (nI i))] []) : ZL l D I Z o0 o1 f0 f1 F Q ((a, b', c, n, mv), (a, b', c, n1, X, Y, U, W, V, K, M, d1, N)) 205 [some (.ref b), some (.ref o0), some (.ref o1), some (.int (nI i))] [] := by
  refine z_ald1 E dL_law_205 ?_
  refine z_ald0 E dL_law_206 ?_
  refine z_ild3 E dL_law_207 ?_
  refine z_ic1 E dL_law_208 ?_
  refine z_iadd E dL_law_209 ?_
  refine zl_sld E hX hbl hbA (show i + 1 < L by omega) (by omega) dL_law_210 ?_
  refine z_ald0 E dL_law_211 ?_
  refine z_ild3 E dL_law_212 ?_
  refine z_ic2 E dL_law_213 ?_
  refine z_iadd E dL_law_214 ?_
  refine zl_sld E hX hbl hbA (show i + 2 < L by omega) (by omega) dL_law_215 ?_
  refine zl_c0 (As := [.int (xs (i + 1)), .int (xs (i + 2))]) (rest := []) E (m0_winningMove (l, D, I, Z, o0, f0) a b' c n mv ha hb hc (xs (i + 1)) (xs (i + 2))) (lw_V q154 q155 q156 q37 q157) hdX0_winningMove rfl (by decide) (by decide) (Nat.le_of_ble_eq_true rfl) rfl dL_law_216 (fun r0 v0 h0 => ?_)
  refine z_ald2 E dL_law_219 ?_
  refine z_ald0 E dL_law_220 ?_
  refine z_ild3 E dL_law_221 ?_
  refine z_ic1 E dL_law_222 ?_
  refine z_iadd E dL_law_223 ?_
  refine zl_sld E hX hbl hbA (show i + 1 < L by omega) (by omega) dL_law_224 ?_
  refine z_ald0 E dL_law_225 ?_
  refine z_ild3 E dL_law_226 ?_
  refine z_ic2 E dL_law_227 ?_
  refine z_iadd E dL_law_228 ?_
  refine zl_sld E hX hbl hbA (show i + 2 < L by omega) (by omega) dL_law_229 ?_
  refine zl_c1 (As := [.int (xs (i + 1)), .int (xs (i + 2))]) (rest := [.int r0]) E (m1_winningMove (l, D, I, Z, o1, f1) a b' c n1 X Y U W V K M d1 N ha hb hc hW (xs (i + 1)) (xs (i + 2))) (lw_V q296 q297 q298 q38 q299) hdX1_winningMove rfl (by decide) (by decide) (Nat.le_of_ble_eq_true rfl) rfl dL_law_230 (fun r1 v1 h1 => ?_)
  have hag := ag_winningMove ha hb hc h0 h1
  refine zr_icmp_eq E 294 dL_law_233 (by decide) (fun cc => ?_) (fun cc => absurd hag.1 cc)
  exact kk v0 v1 hag.2
set_option maxHeartbeats 4000000 in
set_option maxRecDepth 100000 in
theorem law_value {l : Launch} {D : va_G} {I Z : ClassId} {o0 o1 : Nat} {f0 f1 : Nat → Nat} {F : Fx} {Q : State → Prop} {b L : Nat} {xs : Nat → Int32} (hL : L ≤ 192) (E : EE D [(I, .int), (Z, .boolean)] F cL_law 4 R_law 9) (hX : va_X b L xs (fs F) (fs F).heap) (hbl : b < (fs F).heap.size) (hbA : ¬ fA F b) {i a b' c n n1 d1 : Nat} {mv X Y U W V K M N : Nat → Nat} (hi : i + 3 ≤ L) (ha : a ≤ 15) (hb : b' ≤ 15) (hc : c ≤ 15) (hW : ∀ k, W k ≤ 1)
    (kk : ∀ (v0 : S0) (v1 : S1), (∃ (a b' c n : Nat) (mv : Nat → Nat), v0 = (a, b', c, n, mv) ∧ a ≤ 15 ∧ b' ≤ 15 ∧ c ≤ 15 ∧ StpM a b' c v1) → ZL l D I Z o0 o1 f0 f1 F Q (v0, v1) 294 [some (.ref b), some (.ref o0), some (.ref o1), some (.int (nI i))] []) : ZL l D I Z o0 o1 f0 f1 F Q ((a, b', c, n, mv), (a, b', c, n1, X, Y, U, W, V, K, M, d1, N)) 238 [some (.ref b), some (.ref o0), some (.ref o1), some (.int (nI i))] [] := by
  refine z_ald1 E dL_law_238 ?_
  refine z_ald0 E dL_law_239 ?_
  refine z_ild3 E dL_law_240 ?_
  refine z_ic1 E dL_law_241 ?_
  refine z_iadd E dL_law_242 ?_
  refine zl_sld E hX hbl hbA (show i + 1 < L by omega) (by omega) dL_law_243 ?_
  refine zl_c0 (As := [.int (xs (i + 1))]) (rest := []) E (m0_value (l, D, I, Z, o0, f0) a b' c n mv ha hb hc (xs (i + 1))) (lw_V q158 q159 q160 q37 q161) hdX0_value rfl (by decide) (by decide) (Nat.le_of_ble_eq_true rfl) rfl dL_law_244 (fun r0 v0 h0 => ?_)
  refine z_ald2 E dL_law_247 ?_
  refine z_ald0 E dL_law_248 ?_
  refine z_ild3 E dL_law_249 ?_
  refine z_ic1 E dL_law_250 ?_
  refine z_iadd E dL_law_251 ?_
  refine zl_sld E hX hbl hbA (show i + 1 < L by omega) (by omega) dL_law_252 ?_
  refine zl_c1 (As := [.int (xs (i + 1))]) (rest := [.int r0]) E (m1_value (l, D, I, Z, o1, f1) a b' c n1 X Y U W V K M d1 N ha hb hc hW (xs (i + 1))) (lw_V q300 q301 q302 q38 q303) hdX1_value rfl (by decide) (by decide) (Nat.le_of_ble_eq_true rfl) rfl dL_law_253 (fun r1 v1 h1 => ?_)
  have hag := ag_value ha hb hc h0 h1
  refine zr_icmp_eq E 294 dL_law_256 (by decide) (fun cc => ?_) (fun cc => absurd hag.1 cc)
  exact kk v0 v1 hag.2
set_option maxHeartbeats 4000000 in
set_option maxRecDepth 100000 in
theorem law_play {l : Launch} {D : va_G} {I Z : ClassId} {o0 o1 : Nat} {f0 f1 : Nat → Nat} {F : Fx} {Q : State → Prop} {b L : Nat} {xs : Nat → Int32} (hL : L ≤ 192) (E : EE D [(I, .int), (Z, .boolean)] F cL_law 4 R_law 9) (hX : va_X b L xs (fs F) (fs F).heap) (hbl : b < (fs F).heap.size) (hbA : ¬ fA F b) {i a b' c n n1 d1 : Nat} {mv X Y U W V K M N : Nat → Nat} (hi : i + 3 ≤ L) (ha : a ≤ 15) (hb : b' ≤ 15) (hc : c ≤ 15) (hW : ∀ k, W k ≤ 1)
    (kk : ∀ (v0 : S0) (v1 : S1), (∃ (a b' c n : Nat) (mv : Nat → Nat), v0 = (a, b', c, n, mv) ∧ a ≤ 15 ∧ b' ≤ 15 ∧ c ≤ 15 ∧ StpM a b' c v1) → ZL l D I Z o0 o1 f0 f1 F Q (v0, v1) 294 [some (.ref b), some (.ref o0), some (.ref o1), some (.int (nI i))] []) : ZL l D I Z o0 o1 f0 f1 F Q ((a, b', c, n, mv), (a, b', c, n1, X, Y, U, W, V, K, M, d1, N)) 261 [some (.ref b), some (.ref o0), some (.ref o1), some (.int (nI i))] [] := by
  refine z_ald1 E dL_law_261 ?_
  refine z_ald0 E dL_law_262 ?_
  refine z_ild3 E dL_law_263 ?_
  refine z_ic1 E dL_law_264 ?_
  refine z_iadd E dL_law_265 ?_
  refine zl_sld E hX hbl hbA (show i + 1 < L by omega) (by omega) dL_law_266 ?_
  refine z_ald0 E dL_law_267 ?_
  refine z_ild3 E dL_law_268 ?_
  refine z_ic2 E dL_law_269 ?_
  refine z_iadd E dL_law_270 ?_
  refine zl_sld E hX hbl hbA (show i + 2 < L by omega) (by omega) dL_law_271 ?_
  refine zl_c0 (As := [.int (xs (i + 1)), .int (xs (i + 2))]) (rest := []) E (m0_play (l, D, I, Z, o0, f0) a b' c n mv ha hb hc (xs (i + 1)) (xs (i + 2))) (lw_V q162 q163 q164 q37 q165) hdX0_play rfl (by decide) (by decide) (Nat.le_of_ble_eq_true rfl) rfl dL_law_272 (fun r0 v0 h0 => ?_)
  refine z_ald2 E dL_law_275 ?_
  refine z_ald0 E dL_law_276 ?_
  refine z_ild3 E dL_law_277 ?_
  refine z_ic1 E dL_law_278 ?_
  refine z_iadd E dL_law_279 ?_
  refine zl_sld E hX hbl hbA (show i + 1 < L by omega) (by omega) dL_law_280 ?_
  refine z_ald0 E dL_law_281 ?_
  refine z_ild3 E dL_law_282 ?_
  refine z_ic2 E dL_law_283 ?_
  refine z_iadd E dL_law_284 ?_
  refine zl_sld E hX hbl hbA (show i + 2 < L by omega) (by omega) dL_law_285 ?_
  refine zl_c1 (As := [.int (xs (i + 1)), .int (xs (i + 2))]) (rest := [.int r0]) E (m1_play (l, D, I, Z, o1, f1) a b' c n1 X Y U W V K M d1 N ha hb hc hW (xs (i + 1)) (xs (i + 2))) (lw_V q304 q305 q306 q38 q307) hdX1_play rfl (by decide) (by decide) (Nat.le_of_ble_eq_true rfl) rfl dL_law_286 (fun r1 v1 h1 => ?_)
  have hag := ag_play ha hb hc h0 h1
  refine zr_icmp_eq E 294 dL_law_289 (by decide) (fun cc => ?_) (fun cc => absurd hag.1 cc)
  exact kk v0 v1 hag.2
set_option maxHeartbeats 4000000 in
set_option maxRecDepth 100000 in
theorem law_loop {l : Launch} {D : va_G} {I Z : ClassId} {o0 o1 : Nat} {f0 f1 : Nat → Nat} {F : Fx} {Q : State → Prop} {b L : Nat} {xs : Nat → Int32} (hL : L ≤ 192) (E : EE D [(I, .int), (Z, .boolean)] F cL_law 4 R_law 9) (hX : va_X b L xs (fs F) (fs F).heap) (hbl : b < (fs F).heap.size) (hbA : ¬ fA F b) (hRet : ∀ (u : S0 × S1) (lv : List (Option Value)), ZL l D I Z o0 o1 f0 f1 F Q u 301 lv [.int (nI 1)]) :
    ∀ (fuel i : Nat) (v0 : S0) (v1 : S1), (∃ (a b' c n : Nat) (mv : Nat → Nat), v0 = (a, b', c, n, mv) ∧ a ≤ 15 ∧ b' ≤ 15 ∧ c ≤ 15 ∧ StpM a b' c v1) → i ≤ L → L < i + fuel → ZL l D I Z o0 o1 f0 f1 F Q (v0, v1) 18 [some (.ref b), some (.ref o0), some (.ref o1), some (.int (nI i))] [] := by
  intro fuel
  induction fuel with
  | zero =>
    intro i v0 v1 hv h1 h2
    exfalso; omega
  | succ fuel ih =>
    intro i v0 v1 hv h1 h2
    obtain ⟨a, b', c, n, mv, rfl, ha, hb, hc, n1, X, Y, U, W, V, K, M, d1, N, rfl, hW⟩ := hv
    refine z_ild3 E dL_law_18 ?_
    refine z_ald0 E dL_law_19 ?_
    refine zl_slen E hX hbl hbA dL_law_20 ?_
    refine z_ic3 E dL_law_21 ?_
    refine z_isubR E dL_law_22 ?_
    refine zr_icmp_gt E 300 dL_law_23 (by decide) (fun c23 => ?_) (fun c23 => ?_)
    · refine z_ic1 E dL_law_300 ?_
      exact hRet _ _
    · have hi := len3 hL (by omega) c23
      have kk : ∀ (v0 : S0) (v1 : S1), (∃ (a b' c n : Nat) (mv : Nat → Nat), v0 = (a, b', c, n, mv) ∧ a ≤ 15 ∧ b' ≤ 15 ∧ c ≤ 15 ∧ StpM a b' c v1) → ZL l D I Z o0 o1 f0 f1 F Q (v0, v1) 294 [some (.ref b), some (.ref o0), some (.ref o1), some (.int (nI i))] [] := by
        intro v0 v1 hv
        refine z_incG (i := 3) (n := 3) (v := nI (i + 3)) E rfl (by rw [show Int32.ofInt 3 = nI 3 by decide]; exact nI_add i 3) dL_law_294 ?_
        refine z_goto E 18 dL_law_297 (by decide) ?_
        exact ih (i + 3) v0 v1 hv (by omega) (by omega)
      refine z_ald0 E dL_law_26 ?_
      refine z_ild3 E dL_law_27 ?_
      refine zl_sld E hX hbl hbA (show i < L by omega) (by omega) dL_law_28 ?_
      refine z_bipush E 7 (by decide) dL_law_29 ?_
      refine z_iandR E dL_law_31 ?_
      obtain ⟨k, hk, ek⟩ := and7 (xs i)
      refine z_top (nI k) ek ?_
      rcases (show k = 0 ∨ k = 1 ∨ k = 2 ∨ k = 3 ∨ k = 4 ∨ k = 5 ∨ k = 6 ∨ k = 7 by omega) with rfl | rfl | rfl | rfl | rfl | rfl | rfl | rfl
      · exact zl_tab (off := 48) E 80 dL_law_32 (by decide) (by decide) (by decide) (by decide) (law_heap hL E hX hbl hbA hi ha hb hc hW kk)
      · exact zl_tab (off := 81) E 113 dL_law_32 (by decide) (by decide) (by decide) (by decide) (law_has hL E hX hbl hbA hi ha hb hc hW kk)
      · exact zl_tab (off := 104) E 136 dL_law_32 (by decide) (by decide) (by decide) (by decide) (law_won hL E hX hbl hbA hi ha hb hc hW kk)
      · exact zl_tab (off := 127) E 159 dL_law_32 (by decide) (by decide) (by decide) (by decide) (law_moves hL E hX hbl hbA hi ha hb hc hW kk)
      · exact zl_tab (off := 150) E 182 dL_law_32 (by decide) (by decide) (by decide) (by decide) (law_winning hL E hX hbl hbA hi ha hb hc hW kk)
      · exact zl_tab (off := 173) E 205 dL_law_32 (by decide) (by decide) (by decide) (by decide) (law_winningMove hL E hX hbl hbA hi ha hb hc hW kk)
      · exact zl_tab (off := 206) E 238 dL_law_32 (by decide) (by decide) (by decide) (by decide) (law_value hL E hX hbl hbA hi ha hb hc hW kk)
      · exact zl_tab (off := 229) E 261 dL_law_32 (by decide) (by decide) (by decide) (by decide) (law_play hL E hX hbl hbA hi ha hb hc hW kk)
end
section
set_option maxRecDepth 100000
set_option maxHeartbeats 4000000 in
set_option maxRecDepth 100000 in
theorem whole_start {p : Program} {e : Env} {s : State} {m : MethodId} {below : List Frame} {meth : Method} {c : Code} (l : Launch) {b L : Nat} {xs : Nat → Int32} (hL : L ≤ 192) (C0 : lw_At p s m meth c b L xs) : W p l e room_1 s m #[Value.ref b] below meth c s.heap [] 0 0 (lw_Z below #[Value.ref b] s) (entryFrame m ([Value.ref b] : List Value).toArray 4) := by
  obtain ⟨hx, hb, hr, hml, hown, hts0, hX, hbl, hlocks, hgv⟩ := id C0
  have hts : ∀ w ∈ lw_all, w.before #[Value.ref b] s = true := fun w h => hts0 w (lw_all_tbl h)
  have hA : ∀ q : Nat, s.heap.size ≤ q → (fun q : Nat => s.heap.size ≤ q) q := fun _ h => h
  have hbA : ¬ (fun q : Nat => s.heap.size ≤ q) b := Nat.not_le.mpr hbl
  obtain ⟨c0, iS0, hKn0⟩ := u_known (C := RX0) (T := TX0) (N := 3) (n := 3) hts in_X0 (hts _ q40)
  obtain ⟨c1, iS1, hKn1⟩ := u_known (C := RX1) (T := TX1) (N := 11) (n := 11) hts in_X1 (hts _ q168)
  obtain ⟨dC, dI, hKc⟩ : ∃ (dC : Nat → ClassId) (dI : Nat → Nat → Nat), ∀ (k : Nat) (q : vw_C), vwCl[k]? = some q → u_Kn s q.1 q.2.1 q.2.2 (dC k) (dI k) := by
    refine ⟨fun k => if k = 0 then c0 else c1, fun k => if k = 0 then iS0 else iS1, ?_⟩
    intro k q hq
    match k, hq with
    | 0, hq => cases hq; exact hKn0
    | 1, hq => cases hq; exact hKn1
    | k + 2, hq => simp [vwCl] at hq
  obtain ⟨I, kI, cI, hI1, hI2, hI3⟩ := Cond.arrayClass_spec (hts _ q57)
  obtain ⟨Z, kZ, cZ, hZ1, hZ2, hZ3⟩ := Cond.arrayClass_spec (hts _ q207)
  have hK : va_K (dC, dI) vwCl [(I, .int), (Z, .boolean)] s := by
    refine ⟨hKc, fun k q h => ?_⟩
    match k, h with
    | 0, h => cases h; exact ⟨fun n z => ⟨fun k h => (by cases h), kI, hI2, cI, hI3⟩, hI1⟩
    | 1, h => cases h; exact ⟨fun n z => ⟨fun k h => (by cases h), kZ, hZ2, cZ, hZ3⟩, hZ1⟩
    | k + 2, h => simp at h
  have hS : va_S (fun q : Nat => s.heap.size ≤ q) s.heap s.heap [] := va_S.rf
  have hP : va_P (dC, dI) vwCl [] s.heap := fun k q h => by simp at h
  have hD : va_D (fun q : Nat => s.heap.size ≤ q) [] := ⟨fun i j p q h => by simp at h, fun k q h => by simp at h⟩
  have hl := LV.entry (nL := 4) (vs := [Value.ref b]) (by intro w hw; simp at hw; rcases hw with rfl; rfl) (Nat.le_of_ble_eq_true rfl)
  rw [lg_entry_eq]
  generalize (lg_sl ([Value.ref b]) ++ List.replicate (4 - (lg_sl ([Value.ref b])).length) Slot.unset).toArray = ls at hl ⊢
  have hl : LV ls 4 [some (.ref b), none, none, none] := hl
  refine va_new (ci := 0) (fs := [.null, .int (nI 0), .null]) (C := RX0) (T := TX0) (N := 3) hx hb hts in_X0 tyX0 tyX0_ok hown (hts _ q39) (hts _ q40) (hts _ q37) hK hP hD hS hA rfl (fun j hj => by rcases (show j = 0 ∨ j = 1 ∨ j = 2 by omega) with rfl | rfl | rfl <;> rfl) (Nat.le_of_ble_eq_true rfl) (Nat.le_of_ble_eq_true rfl) dL_law_0 (fun q0v H hP hD hS => ?_)
  have hP : va_P (dC, dI) vwCl [(q0v, .inr (0, [.null, .int (nI 0), .null]))] H := hP
  have hD : va_D (fun q : Nat => s.heap.size ≤ q) [(q0v, .inr (0, [.null, .int (nI 0), .null]))] := hD
  refine W.widen (k := 1) (n := 3) (Nat.le_of_ble_eq_true rfl) (Nat.le_of_ble_eq_true rfl) ?_
  refine lv_dup hx hb dL_law_3 rfl ?_
  have hFc := va_free (wc := [(q0v, .inr (0, [.null, .int (nI 0), .null]))]) hD hS hA [0] rfl
  refine va_callv (va_runI (As := []) (rest := [.ref q0v]) ⟨hx, hb, hml, hown, hts⟩ (n0_init l (dC, dI) I Z q0v H.size) (cwI 0 hts (lw_meth q43) rfl rfl rfl (hts _ q37) (hts _ q41) (hts _ q42) rfl (by decide +kernel) ⟨Nat.le_of_ble_eq_true rfl, Nat.le_of_ble_eq_true rfl⟩) ⟨fun a U g mk q => by obtain ⟨q0, q1, qP, qK, qD⟩ := q; exact ⟨q0, q1, qP, va_K.moved (u := U) (U := U.calling g mk a) (Vm.Alike.refl U.vm) qK, qD⟩, fun U hU hW => ⟨rfl, by rw [hU], by rw [hU]; exact hP, va_K.moved hW.alike hK, hD.weaken (fun _ _ _ _ => trivial)⟩⟩ rfl rfl hl.1 rfl (lv_room (Nat.le_of_ble_eq_true rfl)) dL_law_4 ⟨Nat.le_of_ble_eq_true rfl, Nat.le_of_ble_eq_true rfl⟩) hS (fun q _ h => hFc q h) hFc (fun f0 t H1 locs ht hvm hw hB hz1 hk1 hS => ?_)
  obtain ⟨hP1, hK1, hD1⟩ := hB
  rw [ht] at hP1
  obtain ⟨hP, hD⟩ := va_join (wr := []) (w1 := cells0 (l, (dC, dI), I, Z, q0v, f0) z0S) hP hD [0] [] rfl rfl (by decide) (by decide) hk1 hFc hP1 hD1
  generalize H1 = H at hP hS ⊢
  have hP : va_P (dC, dI) vwCl (cells0 (l, (dC, dI), I, Z, q0v, f0) z0S) H := hP
  have hD : va_D (fun q : Nat => s.heap.size ≤ q) (cells0 (l, (dC, dI), I, Z, q0v, f0) z0S) := hD
  refine W.widen (k := 3) (n := 806) (Nat.le_of_ble_eq_true rfl) (Nat.le_of_ble_eq_true rfl) ?_
  refine lv_astore_n hx hb dL_law_7 rfl hl.has (by decide) rfl (fun ls h' => ?_)
  have hl : LV ls 4 [some (.ref b), some (.ref q0v), none, none] := hl.store (i := 1) (Nat.le_of_ble_eq_true rfl) rfl h'
  refine va_new (ci := 1) (fs := [.null, .int (nI 0), .null, .null, .null, .null, .null, .null, .null, .int (nI 0), .null]) (C := RX1) (T := TX1) (N := 11) hx hb hts in_X1 tyX1 tyX1_ok hown (hts _ q167) (hts _ q168) (hts _ q38) hK hP hD hS hA rfl (fun j hj => by rcases (show j = 0 ∨ j = 1 ∨ j = 2 ∨ j = 3 ∨ j = 4 ∨ j = 5 ∨ j = 6 ∨ j = 7 ∨ j = 8 ∨ j = 9 ∨ j = 10 by omega) with rfl | rfl | rfl | rfl | rfl | rfl | rfl | rfl | rfl | rfl | rfl <;> rfl) (Nat.le_of_ble_eq_true rfl) (Nat.le_of_ble_eq_true rfl) dL_law_8 (fun q1v H hP hD hS => ?_)
  refine W.widen (k := 4) (n := 817) (Nat.le_of_ble_eq_true rfl) (Nat.le_of_ble_eq_true rfl) ?_
  refine lv_dup hx hb dL_law_11 rfl ?_
  have hPc : va_P (dC, dI) vwCl [(q1v, .inr (1, [.null, .int (nI 0), .null, .null, .null, .null, .null, .null, .null, .int (nI 0), .null]))] H := hP.sub [3] rfl
  have hDc : va_D (fun q : Nat => s.heap.size ≤ q) [(q1v, .inr (1, [.null, .int (nI 0), .null, .null, .null, .null, .null, .null, .null, .int (nI 0), .null]))] := hD.sub [3] (by decide) rfl
  have hFc := va_free (wc := [(q1v, .inr (1, [.null, .int (nI 0), .null, .null, .null, .null, .null, .null, .null, .int (nI 0), .null]))]) hD hS hA [3] rfl
  refine va_callv (va_runI (As := []) (rest := [.ref q1v]) ⟨hx, hb, hml, hown, hts⟩ (n1_init l (dC, dI) I Z q1v H.size) (cwI 0 hts (lw_meth q171) rfl rfl rfl (hts _ q38) (hts _ q169) (hts _ q170) rfl (by decide +kernel) ⟨Nat.le_of_ble_eq_true rfl, Nat.le_of_ble_eq_true rfl⟩) ⟨fun a U g mk q => by obtain ⟨q0, q1, qP, qK, qD⟩ := q; exact ⟨q0, q1, qP, va_K.moved (u := U) (U := U.calling g mk a) (Vm.Alike.refl U.vm) qK, qD⟩, fun U hU hW => ⟨rfl, by rw [hU], by rw [hU]; exact hPc, va_K.moved hW.alike hK, hDc.weaken (fun _ _ _ _ => trivial)⟩⟩ rfl rfl hl.1 rfl (lv_room (Nat.le_of_ble_eq_true rfl)) dL_law_12 ⟨Nat.le_of_ble_eq_true rfl, Nat.le_of_ble_eq_true rfl⟩) hS (fun q _ h => hFc q h) hFc (fun f1 t H1 locs ht hvm hw hB hz1 hk1 hS => ?_)
  obtain ⟨hP1, hK1, hD1⟩ := hB
  rw [ht] at hP1
  obtain ⟨hP, hD⟩ := va_join (wr := cells0 (l, (dC, dI), I, Z, q0v, f0) z0S) (w1 := cells1 (l, (dC, dI), I, Z, q1v, f1) z1S) hP hD [3] [0, 1, 2] rfl rfl (by decide) (by decide) hk1 hFc hP1 hD1
  generalize H1 = H at hP hS ⊢
  refine W.widen (k := 13) (n := 53437) (Nat.le_of_ble_eq_true rfl) (Nat.le_of_ble_eq_true rfl) ?_
  refine lv_astore_n hx hb dL_law_15 rfl hl.has (by decide) rfl (fun ls h' => ?_)
  have hl : LV ls 4 [some (.ref b), some (.ref q0v), some (.ref q1v), none] := hl.store (i := 2) (Nat.le_of_ble_eq_true rfl) rfl h'
  refine lv_iconst (v := nI 0) hx hb dL_law_16 (by decide) ?_
  refine lv_istore_n hx hb dL_law_17 rfl hl.has (by decide) rfl (fun ls h' => ?_)
  have hl : LV ls 4 [some (.ref b), some (.ref q0v), some (.ref q1v), some (.int (nI 0))] := hl.store (i := 3) (Nat.le_of_ble_eq_true rfl) rfl h'
  have hE : EE (dC, dI) [(I, .int), (Z, .boolean)] (p, e, room_1, s, m, #[Value.ref b], below, meth, c, (fun q : Nat => s.heap.size ≤ q), 13, 53437) cL_law 4 R_law 9 :=
    ⟨hx, hb, hml, hown, hts, hK, hA, Nat.le_of_ble_eq_true rfl, Nat.le_of_ble_eq_true rfl, Nat.le_of_ble_eq_true rfl, Nat.le_of_ble_eq_true rfl⟩
  refine law_loop (l := l) (o0 := q0v) (o1 := q1v) (f0 := f0) (f1 := f1) (Q := lw_Z below #[Value.ref b] s) hL hE hX hbl hbA ?_ (L + 1) 0 z0S z1S ⟨0, 0, 0, 0, fun _ => 0, rfl, by decide, by decide, by decide, 0, _, _, _, _, _, _, _, 0, _, rfl, fun _ => Nat.zero_le _⟩ (Nat.zero_le L) (by omega) H locs ls hP hD hS hl
  intro u lv H locs ls hP hD hS hl
  refine va_forget (fun q hq => hS.2.2 q hq) ?_
  refine W.widen (k := 600000) (n := 7290000) (Nat.le_of_ble_eq_true rfl) (Nat.le_of_ble_eq_true rfl) ?_
  exact lw_ret hx hb hr hlocks dL_law_301
set_option maxHeartbeats 4000000 in
theorem lw_walk (l : Launch) (b : Addr) (xs : List Int32) : MetFree l x (headSpec (Jvm.Cond.code x code maxLocals ret :: tables_1) room_1) (lw_P b xs) (fun _ _ _ _ _ => True) lw_Q := by
  refine MetFree.of_bodyS (code := code) (maxLocals := maxLocals) (ret := ret) (by decide) ?_ ?_
  · intro args s m h hn
    obtain ⟨meth, c, h1, h2, h3, h4, h5, h6, -, -⟩ := Cond.code_spec hn (atoms_spec (ws := Jvm.Cond.code x code maxLocals ret :: tables_1) h _ List.mem_cons_self)
    exact ⟨meth, c, h1, h2, h3, h4, h5, h6⟩
  · intro p e s m args below meth c s₁ B hml0 hP _
    obtain ⟨rfl, hx, hbd, hgv⟩ := hP
    obtain ⟨scr, harrAt, hlist, hof, hsmall⟩ := hx
    obtain ⟨hcb, hkn, -, -⟩ := State.arrayAt?_spec harrAt
    have hown : s.vm.findClass R_law = some m.cls := findClass_of_methodNamed B.named
    have hts0 : ∀ c ∈ (Jvm.Cond.code x code maxLocals ret :: tables_1), c.before #[Value.ref b] s = true := atoms_spec (ws := Jvm.Cond.code x code maxLocals ret :: tables_1) B.pre
    have hts : ∀ w ∈ lw_tbl, w.before #[Value.ref b] s = true := k2_hts_sels lw_privs (fun w hw => hts0 w (List.mem_cons_of_mem _ hw)) lw_privs_ok
    have hml : c.maxLocals = 4 := B.maxLocals_eq (hts0 _ List.mem_cons_self)
    have X₀ : Stand p l e room_1 s m #[Value.ref b] below meth c s₁ [] 0 0 := Stand.of_body B
    have hh0 : s₁.heap = s.heap := by rw [B.state]; rfl
    have hsz : scr.slots.size = xs.length := by rw [← Array.length_toList, hlist, List.length_map]
    have hval : ∀ j : Nat, j < xs.length → scr.slots[j]? = some (.int (xs.getD j 0)) := fun j hj => by
      rw [← Array.getElem?_toList, hlist]
      simp [hj]
    have hbl : b < s.heap.size := (Array.getElem?_eq_some_iff.mp hcb).1
    have hX : va_X b xs.length (fun j => xs.getD j 0) s s.heap := ⟨scr, hcb, hof, hkn, hsz, hval⟩
    have K : W p l e room_1 s m #[Value.ref b] below meth c s₁.heap [] 0 0 (lw_Z below #[Value.ref b] s) (entryFrame m ([Value.ref b] : List Value).toArray 4) := by
      rw [hh0]
      exact whole_start l hbd ⟨B.exec, B.bytes, B.returns, hml, hown, hts, hX, hbl, B.notSynchronized, hgv⟩
    obtain ⟨t, a1, o, b1, b2, b3⟩ := K s₁ rfl X₀
    exact ⟨t, o, a1, b1, b2, b3⟩
theorem lw_pre_spec {args : Array Value} {s : State} (h : (Jvm.Cond.and given_1 narrow_1).before args s = true) (hr : rest_1_c.before args s = true) : ∃ (b : Addr) (xs : List Int32), lw_P b xs args s := by
  have hs := flat_of_before _ h
  have hq := flat_of_before _ hr
  have hc : (Cond.count 1).before args s = true := hs _ (by decide +kernel)
  have harr : (Cond.arrayOf (.arg 0) .int).before args s = true := hs _ (by decide +kernel)
  have hle : (Cond.le (.length (.arg 0)) (.int 192)).before args s = true := hs _ (by decide +kernel)
  have hlen : (Cond.isInt (.length (.arg 0))).before args s = true := hq _ (by decide +kernel)
  have hall : (Cond.all (.arg 0) (.isInt (.elem (.arg 0) (.index 0)))).before args s = true := hq _ (by decide +kernel)
  obtain ⟨b, xs, hb, hx⟩ := State.ints_of_pre rfl harr hlen hall
  have hsm : xs.length < 2 ^ 31 := hx.choose_spec.2.2.2
  have hev : (Term.length (.arg 0)).eval args s none [] s = some (.int xs.length.toInt32) := hx.length_eval hb
  have hv := Cond.le_ints hev (show (Term.int 192).eval args s none [] s = some (.int 192) from rfl)
  have hd : xs.length.toInt32 ≤ 192 := by
    simpa [Cond.before, Cond.holds, hv] using hle
  have hN : xs.length ≤ 192 := (Int32.ofNat_le_ofNat hsm (by decide)).mp (show Int32.ofNat xs.length ≤ Int32.ofNat 192 from hd)
  exact ⟨b, xs, Cond.one_arg hc (show args[0]? = some (.ref b) from hb), hx, hN, h⟩
theorem lw_comes (l : Launch) : Comes l x (Jvm.Cond.code x code maxLocals ret :: tables_1) room_1 (fun tb e args s => Calls_1 tb e args s ∧ rest_1 tb e args s ∧ Pre_1 tb e args s)
    (fun _ _ args s o t => lw_Q args s o t) := by
  intro p e ha hc hk s m args below hf hfit hheap happ hpre
  obtain ⟨b, xs, hP⟩ := lw_pre_spec hpre.2.2 hpre.2.1
  obtain ⟨k, o, h1, h2, h3, hQ⟩ := lw_walk l b xs p e ha hc hk s m args below hf ((Spec.applies_iff_loose hf).mp happ).1 hP trivial
  exact ⟨k, o, h1, h2, h3, hQ⟩
theorem lw_frame {s t : State} {o : Outcome} {args : Array Value} (h : Framed s o t [] 600000 7290000) :
    Framed s o t (fieldLocs frame_1_writes args s ++ arrayLocs frame_1_arrays args s ++ staticLocs frame_1_statics s) 600000 7290000 := h
theorem lw_limb (L : Cond) (hL : ∀ (args : Array Value) (s t : State), L.after args s (.returned (some (.int 1))) t = true) :
    ArmFor flags0 classFile x code maxLocals ret World_1 tables_1 room_1 Calls_1 rest_1 Pre_1
      (fun tb e a s o t => postC L tb e a s o t ∧ Framed s o t (fieldLocs frame_1_writes a s ++ arrayLocs frame_1_arrays a s ++ staticLocs frame_1_statics s) 600000 7290000) := by
  intro l _ _ _ p e ha hc hk s m args below hf hfit hheap happ hpre
  obtain ⟨k, o, h1, h2, h3, rfl, hF⟩ := lw_comes l p e ha hc hk s m args below hf hfit hheap happ hpre
  exact ⟨k, _, h1, h2, h3, hL args s _, lw_frame hF⟩
theorem i_vc : Claimed_1_1 ∧ Claimed_1_2 := ⟨lw_limb limb_1_1 (fun args s t => by simp [limb_1_1, Cond.after, Cond.holds, Cond.value]), lw_limb limb_1_2 (fun args s t => Cond.after_iff.mpr (by
  first | (rw [show limb_1_2 = Cond.eq .result (.int 1) from rfl, Cond.eq_ints (x := 1) (y := 1) rfl rfl]; simp; done) | (simp [limb_1_2, Cond.value, Term.eval]; done)))⟩
end
