section
/-- a private method of a class that the tables say can be made, by its rows of tables_1 -/
def lw_okq (q : MethodName × Nat) : Prop := (q.1.cls ≠ "java/lang/invoke/MethodHandle" ∧ q.1.cls ≠ "java/lang/invoke/VarHandle") ∧ Cond.instantiable q.1.cls q.2 ∈ tables_1 ∧ Cond.privateMethod q.1 ∈ tables_1 ∧ Cond.instanceMethod q.1 ∈ tables_1
set_option maxRecDepth 100000
theorem lw_t1 {w : Cond} (h : w ∈ tables_1_1) : w ∈ tables_1 := List.mem_append_left _ h
theorem lw_t2 {w : Cond} (h : w ∈ tables_1_2) : w ∈ tables_1 := List.mem_append_right _ h
theorem lw_p0 : lw_okq (⟨"FsmReducer", "isState", "(I)Z"⟩, 17) := ⟨⟨by decide +kernel, by decide +kernel⟩, lw_t1 (List.mem_of_getElem? (i := 4) rfl), lw_t1 (List.mem_of_getElem? (i := 73) rfl), lw_t1 (List.mem_of_getElem? (i := 74) rfl)⟩
theorem lw_p1 : lw_okq (⟨"FsmReducer", "refresh", "()V"⟩, 17) := ⟨⟨by decide +kernel, by decide +kernel⟩, lw_t1 (List.mem_of_getElem? (i := 4) rfl), lw_t1 (List.mem_of_getElem? (i := 88) rfl), lw_t1 (List.mem_of_getElem? (i := 89) rfl)⟩
theorem lw_p2 : lw_okq (⟨"FsmReducer", "levelPairs", "()V"⟩, 17) := ⟨⟨by decide +kernel, by decide +kernel⟩, lw_t1 (List.mem_of_getElem? (i := 4) rfl), lw_t1 (List.mem_of_getElem? (i := 92) rfl), lw_t1 (List.mem_of_getElem? (i := 93) rfl)⟩
theorem lw_p3 : lw_okq (⟨"FsmReducer", "splits", "(IIII)Z"⟩, 17) := ⟨⟨by decide +kernel, by decide +kernel⟩, lw_t1 (List.mem_of_getElem? (i := 4) rfl), lw_t1 (List.mem_of_getElem? (i := 96) rfl), lw_t1 (List.mem_of_getElem? (i := 97) rfl)⟩
theorem lw_p4 : lw_okq (⟨"FsmReducer", "output", "(II)I"⟩, 17) := ⟨⟨by decide +kernel, by decide +kernel⟩, lw_t1 (List.mem_of_getElem? (i := 4) rfl), lw_t1 (List.mem_of_getElem? (i := 100) rfl), lw_t1 (List.mem_of_getElem? (i := 101) rfl)⟩
theorem lw_p5 : lw_okq (⟨"FsmReducer", "next", "(II)I"⟩, 17) := ⟨⟨by decide +kernel, by decide +kernel⟩, lw_t1 (List.mem_of_getElem? (i := 4) rfl), lw_t1 (List.mem_of_getElem? (i := 104) rfl), lw_t1 (List.mem_of_getElem? (i := 105) rfl)⟩
theorem lw_p6 : lw_okq (⟨"FsmReducer", "listSets", "()V"⟩, 17) := ⟨⟨by decide +kernel, by decide +kernel⟩, lw_t1 (List.mem_of_getElem? (i := 4) rfl), lw_t1 (List.mem_of_getElem? (i := 108) rfl), lw_t1 (List.mem_of_getElem? (i := 109) rfl)⟩
theorem lw_p7 : lw_okq (⟨"FsmReducer", "holdsTogether", "(I)Z"⟩, 17) := ⟨⟨by decide +kernel, by decide +kernel⟩, lw_t1 (List.mem_of_getElem? (i := 4) rfl), lw_t1 (List.mem_of_getElem? (i := 112) rfl), lw_t1 (List.mem_of_getElem? (i := 113) rfl)⟩
theorem lw_p8 : lw_okq (⟨"FsmReducer", "listLargest", "()V"⟩, 17) := ⟨⟨by decide +kernel, by decide +kernel⟩, lw_t1 (List.mem_of_getElem? (i := 4) rfl), lw_t1 (List.mem_of_getElem? (i := 116) rfl), lw_t1 (List.mem_of_getElem? (i := 117) rfl)⟩
theorem lw_p9 : lw_okq (⟨"FsmReducer", "findCover", "(I)Z"⟩, 17) := ⟨⟨by decide +kernel, by decide +kernel⟩, lw_t1 (List.mem_of_getElem? (i := 4) rfl), lw_t1 (List.mem_of_getElem? (i := 120) rfl), lw_t1 (List.mem_of_getElem? (i := 121) rfl)⟩
theorem lw_p10 : lw_okq (⟨"FsmReducer", "isClosed", "(I)Z"⟩, 17) := ⟨⟨by decide +kernel, by decide +kernel⟩, lw_t1 (List.mem_of_getElem? (i := 4) rfl), lw_t1 (List.mem_of_getElem? (i := 125) rfl), lw_t1 (List.mem_of_getElem? (i := 126) rfl)⟩
theorem lw_p11 : lw_okq (⟨"FsmReducer", "image", "(II)I"⟩, 17) := ⟨⟨by decide +kernel, by decide +kernel⟩, lw_t1 (List.mem_of_getElem? (i := 4) rfl), lw_t1 (List.mem_of_getElem? (i := 129) rfl), lw_t1 (List.mem_of_getElem? (i := 130) rfl)⟩
theorem lw_p12 : lw_okq (⟨"FsmReducer", "firstWith", "(I)I"⟩, 17) := ⟨⟨by decide +kernel, by decide +kernel⟩, lw_t1 (List.mem_of_getElem? (i := 4) rfl), lw_t1 (List.mem_of_getElem? (i := 133) rfl), lw_t1 (List.mem_of_getElem? (i := 134) rfl)⟩
theorem lw_p13 : lw_okq (⟨"FsmReducer", "buildClasses", "()V"⟩, 17) := ⟨⟨by decide +kernel, by decide +kernel⟩, lw_t1 (List.mem_of_getElem? (i := 4) rfl), lw_t1 (List.mem_of_getElem? (i := 137) rfl), lw_t1 (List.mem_of_getElem? (i := 138) rfl)⟩
theorem lw_p14 : lw_okq (⟨"FsmReducer", "sharedOutput", "(II)I"⟩, 17) := ⟨⟨by decide +kernel, by decide +kernel⟩, lw_t1 (List.mem_of_getElem? (i := 4) rfl), lw_t1 (List.mem_of_getElem? (i := 141) rfl), lw_t1 (List.mem_of_getElem? (i := 142) rfl)⟩
theorem lw_p15 : lw_okq (⟨"FsmReducer", "isSet", "(I)Z"⟩, 17) := ⟨⟨by decide +kernel, by decide +kernel⟩, lw_t1 (List.mem_of_getElem? (i := 4) rfl), lw_t1 (List.mem_of_getElem? (i := 157) rfl), lw_t1 (List.mem_of_getElem? (i := 158) rfl)⟩
def lw_privs_1 : List (MethodName × Nat) := [(⟨"FsmReducer", "isState", "(I)Z"⟩, 17), (⟨"FsmReducer", "refresh", "()V"⟩, 17), (⟨"FsmReducer", "levelPairs", "()V"⟩, 17), (⟨"FsmReducer", "splits", "(IIII)Z"⟩, 17), (⟨"FsmReducer", "output", "(II)I"⟩, 17), (⟨"FsmReducer", "next", "(II)I"⟩, 17), (⟨"FsmReducer", "listSets", "()V"⟩, 17), (⟨"FsmReducer", "holdsTogether", "(I)Z"⟩, 17), (⟨"FsmReducer", "listLargest", "()V"⟩, 17), (⟨"FsmReducer", "findCover", "(I)Z"⟩, 17), (⟨"FsmReducer", "isClosed", "(I)Z"⟩, 17), (⟨"FsmReducer", "image", "(II)I"⟩, 17), (⟨"FsmReducer", "firstWith", "(I)I"⟩, 17), (⟨"FsmReducer", "buildClasses", "()V"⟩, 17), (⟨"FsmReducer", "sharedOutput", "(II)I"⟩, 17), (⟨"FsmReducer", "isSet", "(I)Z"⟩, 17)]
theorem lw_r1 : ∀ q ∈ lw_privs_1, lw_okq q := List.forall_mem_cons.mpr ⟨lw_p0, List.forall_mem_cons.mpr ⟨lw_p1, List.forall_mem_cons.mpr ⟨lw_p2, List.forall_mem_cons.mpr ⟨lw_p3, List.forall_mem_cons.mpr ⟨lw_p4, List.forall_mem_cons.mpr ⟨lw_p5, List.forall_mem_cons.mpr ⟨lw_p6, List.forall_mem_cons.mpr ⟨lw_p7, List.forall_mem_cons.mpr ⟨lw_p8, List.forall_mem_cons.mpr ⟨lw_p9, List.forall_mem_cons.mpr ⟨lw_p10, List.forall_mem_cons.mpr ⟨lw_p11, List.forall_mem_cons.mpr ⟨lw_p12, List.forall_mem_cons.mpr ⟨lw_p13, List.forall_mem_cons.mpr ⟨lw_p14, List.forall_mem_cons.mpr ⟨lw_p15, fun _ h => absurd h List.not_mem_nil⟩⟩⟩⟩⟩⟩⟩⟩⟩⟩⟩⟩⟩⟩⟩⟩
theorem lw_p16 : lw_okq (⟨"FsmReducerModel", "badState", "(I)Z"⟩, 6) := ⟨⟨by decide +kernel, by decide +kernel⟩, lw_t1 (List.mem_of_getElem? (i := 203) rfl), lw_t1 (List.mem_of_getElem? (i := 237) rfl), lw_t1 (List.mem_of_getElem? (i := 238) rfl)⟩
theorem lw_p17 : lw_okq (⟨"FsmReducerModel", "badInput", "(I)Z"⟩, 6) := ⟨⟨by decide +kernel, by decide +kernel⟩, lw_t1 (List.mem_of_getElem? (i := 203) rfl), lw_t2 (List.mem_of_getElem? (i := 1) rfl), lw_t2 (List.mem_of_getElem? (i := 2) rfl)⟩
theorem lw_p18 : lw_okq (⟨"FsmReducerModel", "shortest", "(II)I"⟩, 6) := ⟨⟨by decide +kernel, by decide +kernel⟩, lw_t1 (List.mem_of_getElem? (i := 203) rfl), lw_t2 (List.mem_of_getElem? (i := 13) rfl), lw_t2 (List.mem_of_getElem? (i := 14) rfl)⟩
theorem lw_p19 : lw_okq (⟨"FsmReducerModel", "splitter", "(III)I"⟩, 6) := ⟨⟨by decide +kernel, by decide +kernel⟩, lw_t1 (List.mem_of_getElem? (i := 203) rfl), lw_t2 (List.mem_of_getElem? (i := 17) rfl), lw_t2 (List.mem_of_getElem? (i := 18) rfl)⟩
theorem lw_p20 : lw_okq (⟨"FsmReducerModel", "splits", "(IIII)Z"⟩, 6) := ⟨⟨by decide +kernel, by decide +kernel⟩, lw_t1 (List.mem_of_getElem? (i := 203) rfl), lw_t2 (List.mem_of_getElem? (i := 21) rfl), lw_t2 (List.mem_of_getElem? (i := 22) rfl)⟩
theorem lw_p21 : lw_okq (⟨"FsmReducerModel", "next", "(II)I"⟩, 6) := ⟨⟨by decide +kernel, by decide +kernel⟩, lw_t1 (List.mem_of_getElem? (i := 203) rfl), lw_t2 (List.mem_of_getElem? (i := 25) rfl), lw_t2 (List.mem_of_getElem? (i := 26) rfl)⟩
theorem lw_p22 : lw_okq (⟨"FsmReducerModel", "output", "(II)I"⟩, 6) := ⟨⟨by decide +kernel, by decide +kernel⟩, lw_t1 (List.mem_of_getElem? (i := 203) rfl), lw_t2 (List.mem_of_getElem? (i := 29) rfl), lw_t2 (List.mem_of_getElem? (i := 30) rfl)⟩
theorem lw_p23 : lw_okq (⟨"FsmReducerModel", "badSet", "(I)Z"⟩, 6) := ⟨⟨by decide +kernel, by decide +kernel⟩, lw_t1 (List.mem_of_getElem? (i := 203) rfl), lw_t2 (List.mem_of_getElem? (i := 45) rfl), lw_t2 (List.mem_of_getElem? (i := 46) rfl)⟩
theorem lw_p24 : lw_okq (⟨"FsmReducerModel", "tabulate", "()V"⟩, 6) := ⟨⟨by decide +kernel, by decide +kernel⟩, lw_t1 (List.mem_of_getElem? (i := 203) rfl), lw_t2 (List.mem_of_getElem? (i := 49) rfl), lw_t2 (List.mem_of_getElem? (i := 50) rfl)⟩
theorem lw_p25 : lw_okq (⟨"FsmReducerModel", "agreeing", "(I)Z"⟩, 6) := ⟨⟨by decide +kernel, by decide +kernel⟩, lw_t1 (List.mem_of_getElem? (i := 203) rfl), lw_t2 (List.mem_of_getElem? (i := 53) rfl), lw_t2 (List.mem_of_getElem? (i := 54) rfl)⟩
theorem lw_p26 : lw_okq (⟨"FsmReducerModel", "in", "(II)Z"⟩, 6) := ⟨⟨by decide +kernel, by decide +kernel⟩, lw_t1 (List.mem_of_getElem? (i := 203) rfl), lw_t2 (List.mem_of_getElem? (i := 57) rfl), lw_t2 (List.mem_of_getElem? (i := 58) rfl)⟩
theorem lw_p27 : lw_okq (⟨"FsmReducerModel", "largest", "(I)Z"⟩, 6) := ⟨⟨by decide +kernel, by decide +kernel⟩, lw_t1 (List.mem_of_getElem? (i := 203) rfl), lw_t2 (List.mem_of_getElem? (i := 65) rfl), lw_t2 (List.mem_of_getElem? (i := 66) rfl)⟩
theorem lw_p28 : lw_okq (⟨"FsmReducerModel", "image", "(II)I"⟩, 6) := ⟨⟨by decide +kernel, by decide +kernel⟩, lw_t1 (List.mem_of_getElem? (i := 203) rfl), lw_t2 (List.mem_of_getElem? (i := 77) rfl), lw_t2 (List.mem_of_getElem? (i := 78) rfl)⟩
theorem lw_p29 : lw_okq (⟨"FsmReducerModel", "best", "()V"⟩, 6) := ⟨⟨by decide +kernel, by decide +kernel⟩, lw_t1 (List.mem_of_getElem? (i := 203) rfl), lw_t2 (List.mem_of_getElem? (i := 85) rfl), lw_t2 (List.mem_of_getElem? (i := 86) rfl)⟩
theorem lw_p30 : lw_okq (⟨"FsmReducerModel", "room", "(II)Z"⟩, 6) := ⟨⟨by decide +kernel, by decide +kernel⟩, lw_t1 (List.mem_of_getElem? (i := 203) rfl), lw_t2 (List.mem_of_getElem? (i := 89) rfl), lw_t2 (List.mem_of_getElem? (i := 90) rfl)⟩
theorem lw_p31 : lw_okq (⟨"FsmReducerModel", "place", "(II)V"⟩, 6) := ⟨⟨by decide +kernel, by decide +kernel⟩, lw_t1 (List.mem_of_getElem? (i := 203) rfl), lw_t2 (List.mem_of_getElem? (i := 93) rfl), lw_t2 (List.mem_of_getElem? (i := 94) rfl)⟩
def lw_privs_2 : List (MethodName × Nat) := [(⟨"FsmReducerModel", "badState", "(I)Z"⟩, 6), (⟨"FsmReducerModel", "badInput", "(I)Z"⟩, 6), (⟨"FsmReducerModel", "shortest", "(II)I"⟩, 6), (⟨"FsmReducerModel", "splitter", "(III)I"⟩, 6), (⟨"FsmReducerModel", "splits", "(IIII)Z"⟩, 6), (⟨"FsmReducerModel", "next", "(II)I"⟩, 6), (⟨"FsmReducerModel", "output", "(II)I"⟩, 6), (⟨"FsmReducerModel", "badSet", "(I)Z"⟩, 6), (⟨"FsmReducerModel", "tabulate", "()V"⟩, 6), (⟨"FsmReducerModel", "agreeing", "(I)Z"⟩, 6), (⟨"FsmReducerModel", "in", "(II)Z"⟩, 6), (⟨"FsmReducerModel", "largest", "(I)Z"⟩, 6), (⟨"FsmReducerModel", "image", "(II)I"⟩, 6), (⟨"FsmReducerModel", "best", "()V"⟩, 6), (⟨"FsmReducerModel", "room", "(II)Z"⟩, 6), (⟨"FsmReducerModel", "place", "(II)V"⟩, 6)]
theorem lw_r2 : ∀ q ∈ lw_privs_2, lw_okq q := List.forall_mem_cons.mpr ⟨lw_p16, List.forall_mem_cons.mpr ⟨lw_p17, List.forall_mem_cons.mpr ⟨lw_p18, List.forall_mem_cons.mpr ⟨lw_p19, List.forall_mem_cons.mpr ⟨lw_p20, List.forall_mem_cons.mpr ⟨lw_p21, List.forall_mem_cons.mpr ⟨lw_p22, List.forall_mem_cons.mpr ⟨lw_p23, List.forall_mem_cons.mpr ⟨lw_p24, List.forall_mem_cons.mpr ⟨lw_p25, List.forall_mem_cons.mpr ⟨lw_p26, List.forall_mem_cons.mpr ⟨lw_p27, List.forall_mem_cons.mpr ⟨lw_p28, List.forall_mem_cons.mpr ⟨lw_p29, List.forall_mem_cons.mpr ⟨lw_p30, List.forall_mem_cons.mpr ⟨lw_p31, fun _ h => absurd h List.not_mem_nil⟩⟩⟩⟩⟩⟩⟩⟩⟩⟩⟩⟩⟩⟩⟩⟩
theorem lw_p32 : lw_okq (⟨"FsmReducerModel", "covers", "()Z"⟩, 6) := ⟨⟨by decide +kernel, by decide +kernel⟩, lw_t1 (List.mem_of_getElem? (i := 203) rfl), lw_t2 (List.mem_of_getElem? (i := 98) rfl), lw_t2 (List.mem_of_getElem? (i := 99) rfl)⟩
theorem lw_p33 : lw_okq (⟨"FsmReducerModel", "within", "(I)Z"⟩, 6) := ⟨⟨by decide +kernel, by decide +kernel⟩, lw_t1 (List.mem_of_getElem? (i := 203) rfl), lw_t2 (List.mem_of_getElem? (i := 102) rfl), lw_t2 (List.mem_of_getElem? (i := 103) rfl)⟩
theorem lw_p34 : lw_okq (⟨"FsmReducerModel", "advance", "()Z"⟩, 6) := ⟨⟨by decide +kernel, by decide +kernel⟩, lw_t1 (List.mem_of_getElem? (i := 203) rfl), lw_t2 (List.mem_of_getElem? (i := 106) rfl), lw_t2 (List.mem_of_getElem? (i := 107) rfl)⟩
theorem lw_p35 : lw_okq (⟨"FsmReducerModel", "outside", "(I)Z"⟩, 6) := ⟨⟨by decide +kernel, by decide +kernel⟩, lw_t1 (List.mem_of_getElem? (i := 203) rfl), lw_t2 (List.mem_of_getElem? (i := 118) rfl), lw_t2 (List.mem_of_getElem? (i := 119) rfl)⟩
def lw_privs_3 : List (MethodName × Nat) := [(⟨"FsmReducerModel", "covers", "()Z"⟩, 6), (⟨"FsmReducerModel", "within", "(I)Z"⟩, 6), (⟨"FsmReducerModel", "advance", "()Z"⟩, 6), (⟨"FsmReducerModel", "outside", "(I)Z"⟩, 6)]
theorem lw_r3 : ∀ q ∈ lw_privs_3, lw_okq q := List.forall_mem_cons.mpr ⟨lw_p32, List.forall_mem_cons.mpr ⟨lw_p33, List.forall_mem_cons.mpr ⟨lw_p34, List.forall_mem_cons.mpr ⟨lw_p35, fun _ h => absurd h List.not_mem_nil⟩⟩⟩⟩
def lw_privs : List (MethodName × Nat) := lw_privs_1 ++ (lw_privs_2 ++ (lw_privs_3))
def lw_tbl : List Cond := k2_sels lw_privs ++ tables_1
theorem lw_privs_ok : ∀ q ∈ lw_privs, lw_okq q := by
  show ∀ q ∈ lw_privs_1 ++ (lw_privs_2 ++ (lw_privs_3)), lw_okq q
  exact List.forall_mem_append.mpr ⟨lw_r1, List.forall_mem_append.mpr ⟨lw_r2, lw_r3⟩⟩
-- ===== ONE list of words for every method: the tables' words that hold all through a run =====
def lw_all : List Cond := lw_tbl.filter goodWord
/-- a word of the tables by its place: claim/WORDS.tsv -/
theorem lw_w {w : Cond} (i : Nat) (h : lw_tbl[i]? = some w) (g : goodWord w = true) : w ∈ lw_all := List.mem_filter.mpr ⟨List.mem_of_getElem? h, g⟩
theorem lw_all_tbl {w : Cond} (h : w ∈ lw_all) : w ∈ lw_tbl := (List.mem_filter.mp h).1
theorem lw_self : GoodIn lw_all lw_all := fun w h => ⟨h, good_of_word (List.mem_filter.mp h).2⟩
/-- a class's field words, by their places -/
theorem lw_in (ws : List Cond) (ps : List Nat) (hp : ws = ps.filterMap (fun i => lw_tbl[i]?)) (hg : ws.all goodWord = true) : ∀ w ∈ ws, w ∈ lw_all := by
  intro w h
  have h1 := List.all_eq_true.mp hg w h
  rw [hp] at h
  obtain ⟨i, -, hi⟩ := List.mem_filterMap.mp h
  exact lw_w i hi h1
/-- the words of a contract for the method y with code b, L locals, answer r -/
abbrev ws_ (y : MethodName) (b : ByteArray) (L : Nat) (r : Option FieldType) : List Cond := Cond.code y b L r :: lw_all
theorem lw_meth {y : MethodName} {b : ByteArray} {L : Nat} {r : Option FieldType} (h : Cond.code y b L r ∈ lw_all) : GoodIn lw_all (ws_ y b L r) := by
  intro w hw
  rcases List.mem_cons.mp hw with e | e
  · rw [e]
    exact lw_self _ h
  · exact lw_self _ e
theorem lw_app {a c : List Cond} (ha : ∀ w ∈ a, w ∈ lw_all) (hc : GoodIn lw_all c) : GoodIn lw_all (a ++ c) := by
  intro w hw
  rcases List.mem_append.mp hw with e | e
  · exact lw_self w (ha w e)
  · exact hc w e
/-- what a call through an object asks: cwV n hts (lw_V ..) -/
theorem lw_V {own : String} {idx : Nat} {C : String} {y : MethodName} {b : ByteArray} {L : Nat} {r : Option FieldType} (h1 : Cond.methodLink own idx y ∈ lw_all) (h2 : Cond.instanceMethod y ∈ lw_all) (h3 : Cond.selects C y y ∈ lw_all) (h4 : Cond.initialized C ∈ lw_all) (h5 : Cond.code y b L r ∈ lw_all) : GoodIn lw_all (wsV own idx C y (ws_ y b L r)) := by
  refine lw_app ?_ (lw_meth h5)
  intro w hw
  simp only [List.mem_cons, List.not_mem_nil, or_false] at hw
  rcases hw with e | e | e | e
  · rw [e]; exact h1
  · rw [e]; exact h2
  · rw [e]; exact h3
  · rw [e]; exact h4
/-- what a static call asks: va_cwS n hts (lw_S ..) -/
theorem lw_S {own : String} {idx : Nat} {y : MethodName} {b : ByteArray} {L : Nat} {r : Option FieldType} (h1 : Cond.methodLink own idx y ∈ lw_all) (h2 : Cond.static y ∈ lw_all) (h3 : Cond.initialized y.cls ∈ lw_all) (h4 : Cond.code y b L r ∈ lw_all) : GoodIn lw_all (va_wsS own idx y (ws_ y b L r)) := by
  refine lw_app ?_ (lw_meth h4)
  intro w hw
  simp only [List.mem_cons, List.not_mem_nil, or_false] at hw
  rcases hw with e | e | e
  · rw [e]; exact h1
  · rw [e]; exact h2
  · rw [e]; exact h3
/-- the words of a contract for a method WITH HANDLERS (hh: its table) -/
abbrev wsW_ (y : MethodName) (b : ByteArray) (L : Nat) (r : Option FieldType) (hh : List (Nat × Nat × Nat × Nat)) : List Cond := Cond.codeWith y b L r hh :: lw_all
theorem lw_methW {y : MethodName} {b : ByteArray} {L : Nat} {r : Option FieldType} {hh : List (Nat × Nat × Nat × Nat)} (h : Cond.codeWith y b L r hh ∈ lw_all) : GoodIn lw_all (wsW_ y b L r hh) := by
  intro w hw
  rcases List.mem_cons.mp hw with e | e
  · rw [e]
    exact lw_self _ h
  · exact lw_self _ e
/-- any list of words by their places (lw_in), good -/
theorem lw_good {ws : List Cond} (h : ∀ w ∈ ws, w ∈ lw_all) : GoodIn lw_all ws := fun w hw => lw_self w (h w hw)
/-- what a call of a method with handlers asks: vx_cwVW n hts (lw_VW ..), vx_cwSW n hts (lw_SW ..) -/
theorem lw_VW {own : String} {idx : Nat} {C : String} {y : MethodName} {b : ByteArray} {L : Nat} {r : Option FieldType} {hh : List (Nat × Nat × Nat × Nat)} (h1 : Cond.methodLink own idx y ∈ lw_all) (h2 : Cond.instanceMethod y ∈ lw_all) (h3 : Cond.selects C y y ∈ lw_all) (h4 : Cond.initialized C ∈ lw_all) (h5 : Cond.codeWith y b L r hh ∈ lw_all) : GoodIn lw_all (wsV own idx C y (wsW_ y b L r hh)) := by
  refine lw_app ?_ (lw_methW h5)
  intro w hw
  simp only [List.mem_cons, List.not_mem_nil, or_false] at hw
  rcases hw with e | e | e | e
  · rw [e]; exact h1
  · rw [e]; exact h2
  · rw [e]; exact h3
  · rw [e]; exact h4
theorem lw_SW {own : String} {idx : Nat} {y : MethodName} {b : ByteArray} {L : Nat} {r : Option FieldType} {hh : List (Nat × Nat × Nat × Nat)} (h1 : Cond.methodLink own idx y ∈ lw_all) (h2 : Cond.static y ∈ lw_all) (h3 : Cond.initialized y.cls ∈ lw_all) (h4 : Cond.codeWith y b L r hh ∈ lw_all) : GoodIn lw_all (va_wsS own idx y (wsW_ y b L r hh)) := by
  refine lw_app ?_ (lw_methW h4)
  intro w hw
  simp only [List.mem_cons, List.not_mem_nil, or_false] at hw
  rcases hw with e | e | e
  · rw [e]; exact h1
  · rw [e]; exact h2
  · rw [e]; exact h3
/-- a word by its place in its run of the tables -/
theorem lw_at {r : List Cond} (hr : ∀ w ∈ r, w ∈ lw_tbl) {w : Cond} (i : Nat) (h : r[i]? = some w) : w ∈ lw_tbl := hr w (List.mem_of_getElem? h)
theorem lw_g {w : Cond} (h : w ∈ lw_tbl) (g : goodWord w = true) : w ∈ lw_all := List.mem_filter.mpr ⟨h, g⟩
theorem lw_ms : ∀ w ∈ k2_sels lw_privs, w ∈ lw_tbl := fun w h => show w ∈ k2_sels lw_privs ++ tables_1 from List.mem_append_left _ h
theorem lw_m1 : ∀ w ∈ tables_1_1, w ∈ lw_tbl := fun w h => show w ∈ k2_sels lw_privs ++ tables_1 from List.mem_append_right (k2_sels lw_privs) (show w ∈ tables_1 from List.mem_append_left _ h)
theorem lw_m2 : ∀ w ∈ tables_1_2, w ∈ lw_tbl := fun w h => show w ∈ k2_sels lw_privs ++ tables_1 from List.mem_append_right (k2_sels lw_privs) (show w ∈ tables_1 from List.mem_append_right _ h)
theorem qs0 : (Cond.selects "FsmReducer" ⟨"FsmReducer", "isState", "(I)Z"⟩ ⟨"FsmReducer", "isState", "(I)Z"⟩) ∈ lw_all := lw_g (lw_at lw_ms 0 rfl) rfl
theorem qs1 : (Cond.selects "FsmReducer" ⟨"FsmReducer", "refresh", "()V"⟩ ⟨"FsmReducer", "refresh", "()V"⟩) ∈ lw_all := lw_g (lw_at lw_ms 1 rfl) rfl
theorem qs2 : (Cond.selects "FsmReducer" ⟨"FsmReducer", "levelPairs", "()V"⟩ ⟨"FsmReducer", "levelPairs", "()V"⟩) ∈ lw_all := lw_g (lw_at lw_ms 2 rfl) rfl
theorem qs3 : (Cond.selects "FsmReducer" ⟨"FsmReducer", "splits", "(IIII)Z"⟩ ⟨"FsmReducer", "splits", "(IIII)Z"⟩) ∈ lw_all := lw_g (lw_at lw_ms 3 rfl) rfl
theorem qs4 : (Cond.selects "FsmReducer" ⟨"FsmReducer", "output", "(II)I"⟩ ⟨"FsmReducer", "output", "(II)I"⟩) ∈ lw_all := lw_g (lw_at lw_ms 4 rfl) rfl
theorem qs5 : (Cond.selects "FsmReducer" ⟨"FsmReducer", "next", "(II)I"⟩ ⟨"FsmReducer", "next", "(II)I"⟩) ∈ lw_all := lw_g (lw_at lw_ms 5 rfl) rfl
theorem qs6 : (Cond.selects "FsmReducer" ⟨"FsmReducer", "listSets", "()V"⟩ ⟨"FsmReducer", "listSets", "()V"⟩) ∈ lw_all := lw_g (lw_at lw_ms 6 rfl) rfl
theorem qs7 : (Cond.selects "FsmReducer" ⟨"FsmReducer", "holdsTogether", "(I)Z"⟩ ⟨"FsmReducer", "holdsTogether", "(I)Z"⟩) ∈ lw_all := lw_g (lw_at lw_ms 7 rfl) rfl
theorem qs8 : (Cond.selects "FsmReducer" ⟨"FsmReducer", "listLargest", "()V"⟩ ⟨"FsmReducer", "listLargest", "()V"⟩) ∈ lw_all := lw_g (lw_at lw_ms 8 rfl) rfl
theorem qs9 : (Cond.selects "FsmReducer" ⟨"FsmReducer", "findCover", "(I)Z"⟩ ⟨"FsmReducer", "findCover", "(I)Z"⟩) ∈ lw_all := lw_g (lw_at lw_ms 9 rfl) rfl
theorem qs10 : (Cond.selects "FsmReducer" ⟨"FsmReducer", "isClosed", "(I)Z"⟩ ⟨"FsmReducer", "isClosed", "(I)Z"⟩) ∈ lw_all := lw_g (lw_at lw_ms 10 rfl) rfl
theorem qs11 : (Cond.selects "FsmReducer" ⟨"FsmReducer", "image", "(II)I"⟩ ⟨"FsmReducer", "image", "(II)I"⟩) ∈ lw_all := lw_g (lw_at lw_ms 11 rfl) rfl
theorem qs12 : (Cond.selects "FsmReducer" ⟨"FsmReducer", "firstWith", "(I)I"⟩ ⟨"FsmReducer", "firstWith", "(I)I"⟩) ∈ lw_all := lw_g (lw_at lw_ms 12 rfl) rfl
theorem qs13 : (Cond.selects "FsmReducer" ⟨"FsmReducer", "buildClasses", "()V"⟩ ⟨"FsmReducer", "buildClasses", "()V"⟩) ∈ lw_all := lw_g (lw_at lw_ms 13 rfl) rfl
theorem qs14 : (Cond.selects "FsmReducer" ⟨"FsmReducer", "sharedOutput", "(II)I"⟩ ⟨"FsmReducer", "sharedOutput", "(II)I"⟩) ∈ lw_all := lw_g (lw_at lw_ms 14 rfl) rfl
theorem qs15 : (Cond.selects "FsmReducer" ⟨"FsmReducer", "isSet", "(I)Z"⟩ ⟨"FsmReducer", "isSet", "(I)Z"⟩) ∈ lw_all := lw_g (lw_at lw_ms 15 rfl) rfl
theorem qs16 : (Cond.selects "FsmReducerModel" ⟨"FsmReducerModel", "badState", "(I)Z"⟩ ⟨"FsmReducerModel", "badState", "(I)Z"⟩) ∈ lw_all := lw_g (lw_at lw_ms 16 rfl) rfl
theorem qs17 : (Cond.selects "FsmReducerModel" ⟨"FsmReducerModel", "badInput", "(I)Z"⟩ ⟨"FsmReducerModel", "badInput", "(I)Z"⟩) ∈ lw_all := lw_g (lw_at lw_ms 17 rfl) rfl
theorem qs18 : (Cond.selects "FsmReducerModel" ⟨"FsmReducerModel", "shortest", "(II)I"⟩ ⟨"FsmReducerModel", "shortest", "(II)I"⟩) ∈ lw_all := lw_g (lw_at lw_ms 18 rfl) rfl
theorem qs19 : (Cond.selects "FsmReducerModel" ⟨"FsmReducerModel", "splitter", "(III)I"⟩ ⟨"FsmReducerModel", "splitter", "(III)I"⟩) ∈ lw_all := lw_g (lw_at lw_ms 19 rfl) rfl
theorem qs20 : (Cond.selects "FsmReducerModel" ⟨"FsmReducerModel", "splits", "(IIII)Z"⟩ ⟨"FsmReducerModel", "splits", "(IIII)Z"⟩) ∈ lw_all := lw_g (lw_at lw_ms 20 rfl) rfl
theorem qs21 : (Cond.selects "FsmReducerModel" ⟨"FsmReducerModel", "next", "(II)I"⟩ ⟨"FsmReducerModel", "next", "(II)I"⟩) ∈ lw_all := lw_g (lw_at lw_ms 21 rfl) rfl
theorem qs22 : (Cond.selects "FsmReducerModel" ⟨"FsmReducerModel", "output", "(II)I"⟩ ⟨"FsmReducerModel", "output", "(II)I"⟩) ∈ lw_all := lw_g (lw_at lw_ms 22 rfl) rfl
theorem qs23 : (Cond.selects "FsmReducerModel" ⟨"FsmReducerModel", "badSet", "(I)Z"⟩ ⟨"FsmReducerModel", "badSet", "(I)Z"⟩) ∈ lw_all := lw_g (lw_at lw_ms 23 rfl) rfl
theorem qs24 : (Cond.selects "FsmReducerModel" ⟨"FsmReducerModel", "tabulate", "()V"⟩ ⟨"FsmReducerModel", "tabulate", "()V"⟩) ∈ lw_all := lw_g (lw_at lw_ms 24 rfl) rfl
theorem qs25 : (Cond.selects "FsmReducerModel" ⟨"FsmReducerModel", "agreeing", "(I)Z"⟩ ⟨"FsmReducerModel", "agreeing", "(I)Z"⟩) ∈ lw_all := lw_g (lw_at lw_ms 25 rfl) rfl
theorem qs26 : (Cond.selects "FsmReducerModel" ⟨"FsmReducerModel", "in", "(II)Z"⟩ ⟨"FsmReducerModel", "in", "(II)Z"⟩) ∈ lw_all := lw_g (lw_at lw_ms 26 rfl) rfl
theorem qs27 : (Cond.selects "FsmReducerModel" ⟨"FsmReducerModel", "largest", "(I)Z"⟩ ⟨"FsmReducerModel", "largest", "(I)Z"⟩) ∈ lw_all := lw_g (lw_at lw_ms 27 rfl) rfl
theorem qs28 : (Cond.selects "FsmReducerModel" ⟨"FsmReducerModel", "image", "(II)I"⟩ ⟨"FsmReducerModel", "image", "(II)I"⟩) ∈ lw_all := lw_g (lw_at lw_ms 28 rfl) rfl
theorem qs29 : (Cond.selects "FsmReducerModel" ⟨"FsmReducerModel", "best", "()V"⟩ ⟨"FsmReducerModel", "best", "()V"⟩) ∈ lw_all := lw_g (lw_at lw_ms 29 rfl) rfl
theorem qs30 : (Cond.selects "FsmReducerModel" ⟨"FsmReducerModel", "room", "(II)Z"⟩ ⟨"FsmReducerModel", "room", "(II)Z"⟩) ∈ lw_all := lw_g (lw_at lw_ms 30 rfl) rfl
theorem qs31 : (Cond.selects "FsmReducerModel" ⟨"FsmReducerModel", "place", "(II)V"⟩ ⟨"FsmReducerModel", "place", "(II)V"⟩) ∈ lw_all := lw_g (lw_at lw_ms 31 rfl) rfl
theorem qs32 : (Cond.selects "FsmReducerModel" ⟨"FsmReducerModel", "covers", "()Z"⟩ ⟨"FsmReducerModel", "covers", "()Z"⟩) ∈ lw_all := lw_g (lw_at lw_ms 32 rfl) rfl
theorem qs33 : (Cond.selects "FsmReducerModel" ⟨"FsmReducerModel", "within", "(I)Z"⟩ ⟨"FsmReducerModel", "within", "(I)Z"⟩) ∈ lw_all := lw_g (lw_at lw_ms 33 rfl) rfl
theorem qs34 : (Cond.selects "FsmReducerModel" ⟨"FsmReducerModel", "advance", "()Z"⟩ ⟨"FsmReducerModel", "advance", "()Z"⟩) ∈ lw_all := lw_g (lw_at lw_ms 34 rfl) rfl
theorem qs35 : (Cond.selects "FsmReducerModel" ⟨"FsmReducerModel", "outside", "(I)Z"⟩ ⟨"FsmReducerModel", "outside", "(I)Z"⟩) ∈ lw_all := lw_g (lw_at lw_ms 35 rfl) rfl
end
section
/-! FsmReducer -/
set_option maxRecDepth 100000
def RX1 : String := "FsmReducer"
def TX1 : u_T := fun k => match k with
  | 0 => ("FsmReducer", "entries", "[I", true)
  | 1 => ("FsmReducer", "level", "[I", true)
  | 2 => ("FsmReducer", "sets", "[I", true)
  | 3 => ("FsmReducer", "later", "[I", true)
  | 4 => ("FsmReducer", "largest", "[I", true)
  | 5 => ("FsmReducer", "pick", "[I", true)
  | 6 => ("FsmReducer", "union", "[I", true)
  | 7 => ("FsmReducer", "cover", "[I", true)
  | 8 => ("FsmReducer", "nextClass", "[I", true)
  | 9 => ("FsmReducer", "classOut", "[I", true)
  | 10 => ("FsmReducer", "n", "I", false)
  | 11 => ("FsmReducer", "setCount", "I", false)
  | 12 => ("FsmReducer", "largestCount", "I", false)
  | 13 => ("FsmReducer", "coverCount", "I", false)
  | 14 => ("FsmReducer", "current", "Z", false)
  | 15 => ("FsmReducer", "state", "I", false)
  | _ => ("FsmReducer", "inClass", "I", false)
def tyX1 : Nat → FieldType := fun k => match k with
  | 0 => .array .int
  | 1 => .array .int
  | 2 => .array .int
  | 3 => .array .int
  | 4 => .array .int
  | 5 => .array .int
  | 6 => .array .int
  | 7 => .array .int
  | 8 => .array .int
  | 9 => .array .int
  | 10 => .int
  | 11 => .int
  | 12 => .int
  | 13 => .int
  | 14 => .boolean
  | 15 => .int
  | _ => .int
abbrev wsX10 : List Cond := u_ws RX1 TX1 17
set_option maxRecDepth 100000 in
theorem nmX1 : ∀ a, a < 17 → ∀ b, b < 17 → a ≠ b → (TX1 a).2.1 ≠ (TX1 b).2.1 := by decide +kernel
set_option maxRecDepth 100000 in
theorem tyX1_ok : ∀ k, k < 17 → parseFieldDescriptor (TX1 k).2.2.1 = some (tyX1 k) := by decide +kernel
abbrev cX1_init : ByteArray := prog_1_method_1_code
def yX1_init : MethodName := ⟨RX1, "<init>", "(I)V"⟩
theorem dX1_init_0 : decode cX1_init 0 = .ok (.aload_n 0, 1) := by decide +kernel
theorem dX1_init_1 : decode cX1_init 1 = .ok (.invokespecial 1, 3) := by decide +kernel
theorem dX1_init_4 : decode cX1_init 4 = .ok (.aload_n 0, 1) := by decide +kernel
theorem dX1_init_5 : decode cX1_init 5 = .ok (.bipush 10, 2) := by decide +kernel
theorem dX1_init_7 : decode cX1_init 7 = .ok (.newarray .int, 2) := by decide +kernel
theorem dX1_init_9 : decode cX1_init 9 = .ok (.putfield 7, 3) := by decide +kernel
theorem dX1_init_12 : decode cX1_init 12 = .ok (.aload_n 0, 1) := by decide +kernel
theorem dX1_init_13 : decode cX1_init 13 = .ok (.bipush 25, 2) := by decide +kernel
theorem dX1_init_15 : decode cX1_init 15 = .ok (.newarray .int, 2) := by decide +kernel
theorem dX1_init_17 : decode cX1_init 17 = .ok (.putfield 13, 3) := by decide +kernel
theorem dX1_init_20 : decode cX1_init 20 = .ok (.aload_n 0, 1) := by decide +kernel
theorem dX1_init_21 : decode cX1_init 21 = .ok (.bipush 31, 2) := by decide +kernel
theorem dX1_init_23 : decode cX1_init 23 = .ok (.newarray .int, 2) := by decide +kernel
theorem dX1_init_25 : decode cX1_init 25 = .ok (.putfield 16, 3) := by decide +kernel
theorem dX1_init_28 : decode cX1_init 28 = .ok (.aload_n 0, 1) := by decide +kernel
theorem dX1_init_29 : decode cX1_init 29 = .ok (.bipush 32, 2) := by decide +kernel
theorem dX1_init_31 : decode cX1_init 31 = .ok (.newarray .int, 2) := by decide +kernel
theorem dX1_init_33 : decode cX1_init 33 = .ok (.putfield 19, 3) := by decide +kernel
theorem dX1_init_36 : decode cX1_init 36 = .ok (.aload_n 0, 1) := by decide +kernel
theorem dX1_init_37 : decode cX1_init 37 = .ok (.bipush 31, 2) := by decide +kernel
theorem dX1_init_39 : decode cX1_init 39 = .ok (.newarray .int, 2) := by decide +kernel
theorem dX1_init_41 : decode cX1_init 41 = .ok (.putfield 22, 3) := by decide +kernel
theorem dX1_init_44 : decode cX1_init 44 = .ok (.aload_n 0, 1) := by decide +kernel
theorem dX1_init_45 : decode cX1_init 45 = .ok (.bipush 6, 2) := by decide +kernel
theorem dX1_init_47 : decode cX1_init 47 = .ok (.newarray .int, 2) := by decide +kernel
theorem dX1_init_49 : decode cX1_init 49 = .ok (.putfield 25, 3) := by decide +kernel
theorem dX1_init_52 : decode cX1_init 52 = .ok (.aload_n 0, 1) := by decide +kernel
theorem dX1_init_53 : decode cX1_init 53 = .ok (.bipush 6, 2) := by decide +kernel
theorem dX1_init_55 : decode cX1_init 55 = .ok (.newarray .int, 2) := by decide +kernel
theorem dX1_init_57 : decode cX1_init 57 = .ok (.putfield 28, 3) := by decide +kernel
theorem dX1_init_60 : decode cX1_init 60 = .ok (.aload_n 0, 1) := by decide +kernel
theorem dX1_init_61 : decode cX1_init 61 = .ok (.iconst 5, 1) := by decide +kernel
theorem dX1_init_62 : decode cX1_init 62 = .ok (.newarray .int, 2) := by decide +kernel
theorem dX1_init_64 : decode cX1_init 64 = .ok (.putfield 31, 3) := by decide +kernel
theorem dX1_init_67 : decode cX1_init 67 = .ok (.aload_n 0, 1) := by decide +kernel
theorem dX1_init_68 : decode cX1_init 68 = .ok (.bipush 10, 2) := by decide +kernel
theorem dX1_init_70 : decode cX1_init 70 = .ok (.newarray .int, 2) := by decide +kernel
theorem dX1_init_72 : decode cX1_init 72 = .ok (.putfield 34, 3) := by decide +kernel
theorem dX1_init_75 : decode cX1_init 75 = .ok (.aload_n 0, 1) := by decide +kernel
theorem dX1_init_76 : decode cX1_init 76 = .ok (.bipush 10, 2) := by decide +kernel
theorem dX1_init_78 : decode cX1_init 78 = .ok (.newarray .int, 2) := by decide +kernel
theorem dX1_init_80 : decode cX1_init 80 = .ok (.putfield 37, 3) := by decide +kernel
theorem dX1_init_83 : decode cX1_init 83 = .ok (.aload_n 0, 1) := by decide +kernel
theorem dX1_init_84 : decode cX1_init 84 = .ok (.iload_n 1, 1) := by decide +kernel
theorem dX1_init_85 : decode cX1_init 85 = .ok (.iconst 2, 1) := by decide +kernel
theorem dX1_init_86 : decode cX1_init 86 = .ok (.if_icmp .ge 7, 3) := by decide +kernel
theorem dX1_init_89 : decode cX1_init 89 = .ok (.iconst 2, 1) := by decide +kernel
theorem dX1_init_90 : decode cX1_init 90 = .ok (.goto 4, 3) := by decide +kernel
theorem dX1_init_93 : decode cX1_init 93 = .ok (.iload_n 1, 1) := by decide +kernel
theorem dX1_init_94 : decode cX1_init 94 = .ok (.putfield 40, 3) := by decide +kernel
theorem dX1_init_97 : decode cX1_init 97 = .ok (.aload_n 0, 1) := by decide +kernel
theorem dX1_init_98 : decode cX1_init 98 = .ok (.getfield 40, 3) := by decide +kernel
theorem dX1_init_101 : decode cX1_init 101 = .ok (.iconst 5, 1) := by decide +kernel
theorem dX1_init_102 : decode cX1_init 102 = .ok (.if_icmp .le 8, 3) := by decide +kernel
theorem dX1_init_105 : decode cX1_init 105 = .ok (.aload_n 0, 1) := by decide +kernel
theorem dX1_init_106 : decode cX1_init 106 = .ok (.iconst 5, 1) := by decide +kernel
theorem dX1_init_107 : decode cX1_init 107 = .ok (.putfield 40, 3) := by decide +kernel
theorem dX1_init_110 : decode cX1_init 110 = .ok (.return_, 1) := by decide +kernel
abbrev cX1_states : ByteArray := prog_1_method_2_code
def yX1_states : MethodName := ⟨RX1, "states", "()I"⟩
theorem dX1_states_0 : decode cX1_states 0 = .ok (.aload_n 0, 1) := by decide +kernel
theorem dX1_states_1 : decode cX1_states 1 = .ok (.getfield 40, 3) := by decide +kernel
theorem dX1_states_4 : decode cX1_states 4 = .ok (.ireturn, 1) := by decide +kernel
abbrev cX1_set : ByteArray := prog_1_method_3_code
def yX1_set : MethodName := ⟨RX1, "set", "(III)I"⟩
theorem dX1_set_0 : decode cX1_set 0 = .ok (.aload_n 0, 1) := by decide +kernel
theorem dX1_set_1 : decode cX1_set 1 = .ok (.iload_n 1, 1) := by decide +kernel
theorem dX1_set_2 : decode cX1_set 2 = .ok (.invokevirtual 44, 3) := by decide +kernel
theorem dX1_set_5 : decode cX1_set 5 = .ok (.ifCond .ne 5, 3) := by decide +kernel
theorem dX1_set_8 : decode cX1_set 8 = .ok (.iconst (-1), 1) := by decide +kernel
theorem dX1_set_9 : decode cX1_set 9 = .ok (.ireturn, 1) := by decide +kernel
theorem dX1_set_10 : decode cX1_set 10 = .ok (.iload_n 2, 1) := by decide +kernel
theorem dX1_set_11 : decode cX1_set 11 = .ok (.invokestatic 48, 3) := by decide +kernel
theorem dX1_set_14 : decode cX1_set 14 = .ok (.ifCond .ne 6, 3) := by decide +kernel
theorem dX1_set_17 : decode cX1_set 17 = .ok (.bipush (-2), 2) := by decide +kernel
theorem dX1_set_19 : decode cX1_set 19 = .ok (.ireturn, 1) := by decide +kernel
theorem dX1_set_20 : decode cX1_set 20 = .ok (.iload_n 3, 1) := by decide +kernel
theorem dX1_set_21 : decode cX1_set 21 = .ok (.ifCond .lt 15, 3) := by decide +kernel
theorem dX1_set_24 : decode cX1_set 24 = .ok (.iload_n 3, 1) := by decide +kernel
theorem dX1_set_25 : decode cX1_set 25 = .ok (.iconst 3, 1) := by decide +kernel
theorem dX1_set_26 : decode cX1_set 26 = .ok (.aload_n 0, 1) := by decide +kernel
theorem dX1_set_27 : decode cX1_set 27 = .ok (.getfield 40, 3) := by decide +kernel
theorem dX1_set_30 : decode cX1_set 30 = .ok (.iconst 1, 1) := by decide +kernel
theorem dX1_set_31 : decode cX1_set 31 = .ok (.iadd, 1) := by decide +kernel
theorem dX1_set_32 : decode cX1_set 32 = .ok (.imul, 1) := by decide +kernel
theorem dX1_set_33 : decode cX1_set 33 = .ok (.if_icmp .lt 6, 3) := by decide +kernel
theorem dX1_set_36 : decode cX1_set 36 = .ok (.bipush (-3), 2) := by decide +kernel
theorem dX1_set_38 : decode cX1_set 38 = .ok (.ireturn, 1) := by decide +kernel
theorem dX1_set_39 : decode cX1_set 39 = .ok (.aload_n 0, 1) := by decide +kernel
theorem dX1_set_40 : decode cX1_set 40 = .ok (.getfield 7, 3) := by decide +kernel
theorem dX1_set_43 : decode cX1_set 43 = .ok (.iconst 2, 1) := by decide +kernel
theorem dX1_set_44 : decode cX1_set 44 = .ok (.iload_n 1, 1) := by decide +kernel
theorem dX1_set_45 : decode cX1_set 45 = .ok (.imul, 1) := by decide +kernel
theorem dX1_set_46 : decode cX1_set 46 = .ok (.iload_n 2, 1) := by decide +kernel
theorem dX1_set_47 : decode cX1_set 47 = .ok (.iadd, 1) := by decide +kernel
theorem dX1_set_48 : decode cX1_set 48 = .ok (.iaload, 1) := by decide +kernel
theorem dX1_set_49 : decode cX1_set 49 = .ok (.istore 4, 2) := by decide +kernel
theorem dX1_set_51 : decode cX1_set 51 = .ok (.aload_n 0, 1) := by decide +kernel
theorem dX1_set_52 : decode cX1_set 52 = .ok (.getfield 7, 3) := by decide +kernel
theorem dX1_set_55 : decode cX1_set 55 = .ok (.iconst 2, 1) := by decide +kernel
theorem dX1_set_56 : decode cX1_set 56 = .ok (.iload_n 1, 1) := by decide +kernel
theorem dX1_set_57 : decode cX1_set 57 = .ok (.imul, 1) := by decide +kernel
theorem dX1_set_58 : decode cX1_set 58 = .ok (.iload_n 2, 1) := by decide +kernel
theorem dX1_set_59 : decode cX1_set 59 = .ok (.iadd, 1) := by decide +kernel
theorem dX1_set_60 : decode cX1_set 60 = .ok (.iload_n 3, 1) := by decide +kernel
theorem dX1_set_61 : decode cX1_set 61 = .ok (.iastore, 1) := by decide +kernel
theorem dX1_set_62 : decode cX1_set 62 = .ok (.aload_n 0, 1) := by decide +kernel
theorem dX1_set_63 : decode cX1_set 63 = .ok (.iconst 0, 1) := by decide +kernel
theorem dX1_set_64 : decode cX1_set 64 = .ok (.putfield 51, 3) := by decide +kernel
theorem dX1_set_67 : decode cX1_set 67 = .ok (.aload_n 0, 1) := by decide +kernel
theorem dX1_set_68 : decode cX1_set 68 = .ok (.iconst 0, 1) := by decide +kernel
theorem dX1_set_69 : decode cX1_set 69 = .ok (.putfield 55, 3) := by decide +kernel
theorem dX1_set_72 : decode cX1_set 72 = .ok (.iload 4, 2) := by decide +kernel
theorem dX1_set_74 : decode cX1_set 74 = .ok (.ireturn, 1) := by decide +kernel
abbrev cX1_isState : ByteArray := prog_1_method_18_code
def yX1_isState : MethodName := ⟨RX1, "isState", "(I)Z"⟩
theorem dX1_isState_0 : decode cX1_isState 0 = .ok (.iload_n 1, 1) := by decide +kernel
theorem dX1_isState_1 : decode cX1_isState 1 = .ok (.ifCond .lt 15, 3) := by decide +kernel
theorem dX1_isState_4 : decode cX1_isState 4 = .ok (.iload_n 1, 1) := by decide +kernel
theorem dX1_isState_5 : decode cX1_isState 5 = .ok (.aload_n 0, 1) := by decide +kernel
theorem dX1_isState_6 : decode cX1_isState 6 = .ok (.getfield 40, 3) := by decide +kernel
theorem dX1_isState_9 : decode cX1_isState 9 = .ok (.if_icmp .ge 7, 3) := by decide +kernel
theorem dX1_isState_12 : decode cX1_isState 12 = .ok (.iconst 1, 1) := by decide +kernel
theorem dX1_isState_13 : decode cX1_isState 13 = .ok (.goto 4, 3) := by decide +kernel
theorem dX1_isState_16 : decode cX1_isState 16 = .ok (.iconst 0, 1) := by decide +kernel
theorem dX1_isState_17 : decode cX1_isState 17 = .ok (.ireturn, 1) := by decide +kernel
abbrev cX1_isInput : ByteArray := prog_1_method_19_code
def yX1_isInput : MethodName := ⟨RX1, "isInput", "(I)Z"⟩
theorem dX1_isInput_0 : decode cX1_isInput 0 = .ok (.iload_n 0, 1) := by decide +kernel
theorem dX1_isInput_1 : decode cX1_isInput 1 = .ok (.ifCond .eq 8, 3) := by decide +kernel
theorem dX1_isInput_4 : decode cX1_isInput 4 = .ok (.iload_n 0, 1) := by decide +kernel
theorem dX1_isInput_5 : decode cX1_isInput 5 = .ok (.iconst 1, 1) := by decide +kernel
theorem dX1_isInput_6 : decode cX1_isInput 6 = .ok (.if_icmp .ne 7, 3) := by decide +kernel
theorem dX1_isInput_9 : decode cX1_isInput 9 = .ok (.iconst 1, 1) := by decide +kernel
theorem dX1_isInput_10 : decode cX1_isInput 10 = .ok (.goto 4, 3) := by decide +kernel
theorem dX1_isInput_13 : decode cX1_isInput 13 = .ok (.iconst 0, 1) := by decide +kernel
theorem dX1_isInput_14 : decode cX1_isInput 14 = .ok (.ireturn, 1) := by decide +kernel
abbrev cX1_entry : ByteArray := prog_1_method_4_code
def yX1_entry : MethodName := ⟨RX1, "entry", "(II)I"⟩
theorem dX1_entry_0 : decode cX1_entry 0 = .ok (.aload_n 0, 1) := by decide +kernel
theorem dX1_entry_1 : decode cX1_entry 1 = .ok (.iload_n 1, 1) := by decide +kernel
theorem dX1_entry_2 : decode cX1_entry 2 = .ok (.invokevirtual 44, 3) := by decide +kernel
theorem dX1_entry_5 : decode cX1_entry 5 = .ok (.ifCond .ne 5, 3) := by decide +kernel
theorem dX1_entry_8 : decode cX1_entry 8 = .ok (.iconst (-1), 1) := by decide +kernel
theorem dX1_entry_9 : decode cX1_entry 9 = .ok (.ireturn, 1) := by decide +kernel
theorem dX1_entry_10 : decode cX1_entry 10 = .ok (.iload_n 2, 1) := by decide +kernel
theorem dX1_entry_11 : decode cX1_entry 11 = .ok (.invokestatic 48, 3) := by decide +kernel
theorem dX1_entry_14 : decode cX1_entry 14 = .ok (.ifCond .eq 16, 3) := by decide +kernel
theorem dX1_entry_17 : decode cX1_entry 17 = .ok (.aload_n 0, 1) := by decide +kernel
theorem dX1_entry_18 : decode cX1_entry 18 = .ok (.getfield 7, 3) := by decide +kernel
theorem dX1_entry_21 : decode cX1_entry 21 = .ok (.iconst 2, 1) := by decide +kernel
theorem dX1_entry_22 : decode cX1_entry 22 = .ok (.iload_n 1, 1) := by decide +kernel
theorem dX1_entry_23 : decode cX1_entry 23 = .ok (.imul, 1) := by decide +kernel
theorem dX1_entry_24 : decode cX1_entry 24 = .ok (.iload_n 2, 1) := by decide +kernel
theorem dX1_entry_25 : decode cX1_entry 25 = .ok (.iadd, 1) := by decide +kernel
theorem dX1_entry_26 : decode cX1_entry 26 = .ok (.iaload, 1) := by decide +kernel
theorem dX1_entry_27 : decode cX1_entry 27 = .ok (.goto 5, 3) := by decide +kernel
theorem dX1_entry_30 : decode cX1_entry 30 = .ok (.bipush (-2), 2) := by decide +kernel
theorem dX1_entry_32 : decode cX1_entry 32 = .ok (.ireturn, 1) := by decide +kernel
abbrev cX1_compatible : ByteArray := prog_1_method_5_code
def yX1_compatible : MethodName := ⟨RX1, "compatible", "(II)I"⟩
theorem dX1_compatible_0 : decode cX1_compatible 0 = .ok (.aload_n 0, 1) := by decide +kernel
theorem dX1_compatible_1 : decode cX1_compatible 1 = .ok (.iload_n 1, 1) := by decide +kernel
theorem dX1_compatible_2 : decode cX1_compatible 2 = .ok (.invokevirtual 44, 3) := by decide +kernel
theorem dX1_compatible_5 : decode cX1_compatible 5 = .ok (.ifCond .eq 11, 3) := by decide +kernel
theorem dX1_compatible_8 : decode cX1_compatible 8 = .ok (.aload_n 0, 1) := by decide +kernel
theorem dX1_compatible_9 : decode cX1_compatible 9 = .ok (.iload_n 2, 1) := by decide +kernel
theorem dX1_compatible_10 : decode cX1_compatible 10 = .ok (.invokevirtual 44, 3) := by decide +kernel
theorem dX1_compatible_13 : decode cX1_compatible 13 = .ok (.ifCond .ne 5, 3) := by decide +kernel
theorem dX1_compatible_16 : decode cX1_compatible 16 = .ok (.iconst (-1), 1) := by decide +kernel
theorem dX1_compatible_17 : decode cX1_compatible 17 = .ok (.ireturn, 1) := by decide +kernel
theorem dX1_compatible_18 : decode cX1_compatible 18 = .ok (.aload_n 0, 1) := by decide +kernel
theorem dX1_compatible_19 : decode cX1_compatible 19 = .ok (.invokevirtual 58, 3) := by decide +kernel
theorem dX1_compatible_22 : decode cX1_compatible 22 = .ok (.aload_n 0, 1) := by decide +kernel
theorem dX1_compatible_23 : decode cX1_compatible 23 = .ok (.getfield 13, 3) := by decide +kernel
theorem dX1_compatible_26 : decode cX1_compatible 26 = .ok (.iconst 5, 1) := by decide +kernel
theorem dX1_compatible_27 : decode cX1_compatible 27 = .ok (.iload_n 1, 1) := by decide +kernel
theorem dX1_compatible_28 : decode cX1_compatible 28 = .ok (.imul, 1) := by decide +kernel
theorem dX1_compatible_29 : decode cX1_compatible 29 = .ok (.iload_n 2, 1) := by decide +kernel
theorem dX1_compatible_30 : decode cX1_compatible 30 = .ok (.iadd, 1) := by decide +kernel
theorem dX1_compatible_31 : decode cX1_compatible 31 = .ok (.iaload, 1) := by decide +kernel
theorem dX1_compatible_32 : decode cX1_compatible 32 = .ok (.sipush 1000, 3) := by decide +kernel
theorem dX1_compatible_35 : decode cX1_compatible 35 = .ok (.if_icmp .ne 7, 3) := by decide +kernel
theorem dX1_compatible_38 : decode cX1_compatible 38 = .ok (.iconst 1, 1) := by decide +kernel
theorem dX1_compatible_39 : decode cX1_compatible 39 = .ok (.goto 4, 3) := by decide +kernel
theorem dX1_compatible_42 : decode cX1_compatible 42 = .ok (.iconst 0, 1) := by decide +kernel
theorem dX1_compatible_43 : decode cX1_compatible 43 = .ok (.ireturn, 1) := by decide +kernel
abbrev cX1_refresh : ByteArray := prog_1_method_24_code
def yX1_refresh : MethodName := ⟨RX1, "refresh", "()V"⟩
theorem dX1_refresh_0 : decode cX1_refresh 0 = .ok (.aload_n 0, 1) := by decide +kernel
theorem dX1_refresh_1 : decode cX1_refresh 1 = .ok (.getfield 51, 3) := by decide +kernel
theorem dX1_refresh_4 : decode cX1_refresh 4 = .ok (.ifCond .eq 4, 3) := by decide +kernel
theorem dX1_refresh_7 : decode cX1_refresh 7 = .ok (.return_, 1) := by decide +kernel
theorem dX1_refresh_8 : decode cX1_refresh 8 = .ok (.aload_n 0, 1) := by decide +kernel
theorem dX1_refresh_9 : decode cX1_refresh 9 = .ok (.iconst 1, 1) := by decide +kernel
theorem dX1_refresh_10 : decode cX1_refresh 10 = .ok (.putfield 51, 3) := by decide +kernel
theorem dX1_refresh_13 : decode cX1_refresh 13 = .ok (.aload_n 0, 1) := by decide +kernel
theorem dX1_refresh_14 : decode cX1_refresh 14 = .ok (.invokevirtual 97, 3) := by decide +kernel
theorem dX1_refresh_17 : decode cX1_refresh 17 = .ok (.aload_n 0, 1) := by decide +kernel
theorem dX1_refresh_18 : decode cX1_refresh 18 = .ok (.invokevirtual 100, 3) := by decide +kernel
theorem dX1_refresh_21 : decode cX1_refresh 21 = .ok (.aload_n 0, 1) := by decide +kernel
theorem dX1_refresh_22 : decode cX1_refresh 22 = .ok (.invokevirtual 103, 3) := by decide +kernel
theorem dX1_refresh_25 : decode cX1_refresh 25 = .ok (.iconst 1, 1) := by decide +kernel
theorem dX1_refresh_26 : decode cX1_refresh 26 = .ok (.istore_n 1, 1) := by decide +kernel
theorem dX1_refresh_27 : decode cX1_refresh 27 = .ok (.iload_n 1, 1) := by decide +kernel
theorem dX1_refresh_28 : decode cX1_refresh 28 = .ok (.aload_n 0, 1) := by decide +kernel
theorem dX1_refresh_29 : decode cX1_refresh 29 = .ok (.getfield 40, 3) := by decide +kernel
theorem dX1_refresh_32 : decode cX1_refresh 32 = .ok (.if_icmp .gt 20, 3) := by decide +kernel
theorem dX1_refresh_35 : decode cX1_refresh 35 = .ok (.aload_n 0, 1) := by decide +kernel
theorem dX1_refresh_36 : decode cX1_refresh 36 = .ok (.iload_n 1, 1) := by decide +kernel
theorem dX1_refresh_37 : decode cX1_refresh 37 = .ok (.invokevirtual 106, 3) := by decide +kernel
theorem dX1_refresh_40 : decode cX1_refresh 40 = .ok (.ifCond .eq 6, 3) := by decide +kernel
theorem dX1_refresh_43 : decode cX1_refresh 43 = .ok (.goto 9, 3) := by decide +kernel
theorem dX1_refresh_46 : decode cX1_refresh 46 = .ok (.iinc 1 1, 3) := by decide +kernel
theorem dX1_refresh_49 : decode cX1_refresh 49 = .ok (.goto (-22), 3) := by decide +kernel
theorem dX1_refresh_52 : decode cX1_refresh 52 = .ok (.aload_n 0, 1) := by decide +kernel
theorem dX1_refresh_53 : decode cX1_refresh 53 = .ok (.invokevirtual 109, 3) := by decide +kernel
theorem dX1_refresh_56 : decode cX1_refresh 56 = .ok (.aload_n 0, 1) := by decide +kernel
theorem dX1_refresh_57 : decode cX1_refresh 57 = .ok (.aload_n 0, 1) := by decide +kernel
theorem dX1_refresh_58 : decode cX1_refresh 58 = .ok (.iconst 1, 1) := by decide +kernel
theorem dX1_refresh_59 : decode cX1_refresh 59 = .ok (.invokevirtual 87, 3) := by decide +kernel
theorem dX1_refresh_62 : decode cX1_refresh 62 = .ok (.putfield 91, 3) := by decide +kernel
theorem dX1_refresh_65 : decode cX1_refresh 65 = .ok (.return_, 1) := by decide +kernel
abbrev cX1_levelPairs : ByteArray := prog_1_method_26_code
def yX1_levelPairs : MethodName := ⟨RX1, "levelPairs", "()V"⟩
theorem dX1_levelPairs_0 : decode cX1_levelPairs 0 = .ok (.iconst 0, 1) := by decide +kernel
theorem dX1_levelPairs_1 : decode cX1_levelPairs 1 = .ok (.istore_n 1, 1) := by decide +kernel
theorem dX1_levelPairs_2 : decode cX1_levelPairs 2 = .ok (.iload_n 1, 1) := by decide +kernel
theorem dX1_levelPairs_3 : decode cX1_levelPairs 3 = .ok (.bipush 25, 2) := by decide +kernel
theorem dX1_levelPairs_5 : decode cX1_levelPairs 5 = .ok (.if_icmp .ge 18, 3) := by decide +kernel
theorem dX1_levelPairs_8 : decode cX1_levelPairs 8 = .ok (.aload_n 0, 1) := by decide +kernel
theorem dX1_levelPairs_9 : decode cX1_levelPairs 9 = .ok (.getfield 13, 3) := by decide +kernel
theorem dX1_levelPairs_12 : decode cX1_levelPairs 12 = .ok (.iload_n 1, 1) := by decide +kernel
theorem dX1_levelPairs_13 : decode cX1_levelPairs 13 = .ok (.sipush 1000, 3) := by decide +kernel
theorem dX1_levelPairs_16 : decode cX1_levelPairs 16 = .ok (.iastore, 1) := by decide +kernel
theorem dX1_levelPairs_17 : decode cX1_levelPairs 17 = .ok (.iinc 1 1, 3) := by decide +kernel
theorem dX1_levelPairs_20 : decode cX1_levelPairs 20 = .ok (.goto (-18), 3) := by decide +kernel
theorem dX1_levelPairs_23 : decode cX1_levelPairs 23 = .ok (.iconst 1, 1) := by decide +kernel
theorem dX1_levelPairs_24 : decode cX1_levelPairs 24 = .ok (.istore_n 1, 1) := by decide +kernel
theorem dX1_levelPairs_25 : decode cX1_levelPairs 25 = .ok (.iload_n 1, 1) := by decide +kernel
theorem dX1_levelPairs_26 : decode cX1_levelPairs 26 = .ok (.bipush 25, 2) := by decide +kernel
theorem dX1_levelPairs_28 : decode cX1_levelPairs 28 = .ok (.if_icmp .gt 98, 3) := by decide +kernel
theorem dX1_levelPairs_31 : decode cX1_levelPairs 31 = .ok (.iconst 0, 1) := by decide +kernel
theorem dX1_levelPairs_32 : decode cX1_levelPairs 32 = .ok (.istore_n 2, 1) := by decide +kernel
theorem dX1_levelPairs_33 : decode cX1_levelPairs 33 = .ok (.iload_n 2, 1) := by decide +kernel
theorem dX1_levelPairs_34 : decode cX1_levelPairs 34 = .ok (.aload_n 0, 1) := by decide +kernel
theorem dX1_levelPairs_35 : decode cX1_levelPairs 35 = .ok (.getfield 40, 3) := by decide +kernel
theorem dX1_levelPairs_38 : decode cX1_levelPairs 38 = .ok (.aload_n 0, 1) := by decide +kernel
theorem dX1_levelPairs_39 : decode cX1_levelPairs 39 = .ok (.getfield 40, 3) := by decide +kernel
theorem dX1_levelPairs_42 : decode cX1_levelPairs 42 = .ok (.imul, 1) := by decide +kernel
theorem dX1_levelPairs_43 : decode cX1_levelPairs 43 = .ok (.if_icmp .ge 77, 3) := by decide +kernel
theorem dX1_levelPairs_46 : decode cX1_levelPairs 46 = .ok (.iload_n 2, 1) := by decide +kernel
theorem dX1_levelPairs_47 : decode cX1_levelPairs 47 = .ok (.aload_n 0, 1) := by decide +kernel
theorem dX1_levelPairs_48 : decode cX1_levelPairs 48 = .ok (.getfield 40, 3) := by decide +kernel
theorem dX1_levelPairs_51 : decode cX1_levelPairs 51 = .ok (.idiv, 1) := by decide +kernel
theorem dX1_levelPairs_52 : decode cX1_levelPairs 52 = .ok (.istore_n 3, 1) := by decide +kernel
theorem dX1_levelPairs_53 : decode cX1_levelPairs 53 = .ok (.iload_n 2, 1) := by decide +kernel
theorem dX1_levelPairs_54 : decode cX1_levelPairs 54 = .ok (.aload_n 0, 1) := by decide +kernel
theorem dX1_levelPairs_55 : decode cX1_levelPairs 55 = .ok (.getfield 40, 3) := by decide +kernel
theorem dX1_levelPairs_58 : decode cX1_levelPairs 58 = .ok (.irem, 1) := by decide +kernel
theorem dX1_levelPairs_59 : decode cX1_levelPairs 59 = .ok (.istore 4, 2) := by decide +kernel
theorem dX1_levelPairs_61 : decode cX1_levelPairs 61 = .ok (.aload_n 0, 1) := by decide +kernel
theorem dX1_levelPairs_62 : decode cX1_levelPairs 62 = .ok (.getfield 13, 3) := by decide +kernel
theorem dX1_levelPairs_65 : decode cX1_levelPairs 65 = .ok (.iconst 5, 1) := by decide +kernel
theorem dX1_levelPairs_66 : decode cX1_levelPairs 66 = .ok (.iload_n 3, 1) := by decide +kernel
theorem dX1_levelPairs_67 : decode cX1_levelPairs 67 = .ok (.imul, 1) := by decide +kernel
theorem dX1_levelPairs_68 : decode cX1_levelPairs 68 = .ok (.iload 4, 2) := by decide +kernel
theorem dX1_levelPairs_70 : decode cX1_levelPairs 70 = .ok (.iadd, 1) := by decide +kernel
theorem dX1_levelPairs_71 : decode cX1_levelPairs 71 = .ok (.iaload, 1) := by decide +kernel
theorem dX1_levelPairs_72 : decode cX1_levelPairs 72 = .ok (.sipush 1000, 3) := by decide +kernel
theorem dX1_levelPairs_75 : decode cX1_levelPairs 75 = .ok (.if_icmp .ne 39, 3) := by decide +kernel
theorem dX1_levelPairs_78 : decode cX1_levelPairs 78 = .ok (.aload_n 0, 1) := by decide +kernel
theorem dX1_levelPairs_79 : decode cX1_levelPairs 79 = .ok (.iload_n 3, 1) := by decide +kernel
theorem dX1_levelPairs_80 : decode cX1_levelPairs 80 = .ok (.iload 4, 2) := by decide +kernel
theorem dX1_levelPairs_82 : decode cX1_levelPairs 82 = .ok (.iconst 0, 1) := by decide +kernel
theorem dX1_levelPairs_83 : decode cX1_levelPairs 83 = .ok (.iload_n 1, 1) := by decide +kernel
theorem dX1_levelPairs_84 : decode cX1_levelPairs 84 = .ok (.invokevirtual 61, 3) := by decide +kernel
theorem dX1_levelPairs_87 : decode cX1_levelPairs 87 = .ok (.ifCond .ne 15, 3) := by decide +kernel
theorem dX1_levelPairs_90 : decode cX1_levelPairs 90 = .ok (.aload_n 0, 1) := by decide +kernel
theorem dX1_levelPairs_91 : decode cX1_levelPairs 91 = .ok (.iload_n 3, 1) := by decide +kernel
theorem dX1_levelPairs_92 : decode cX1_levelPairs 92 = .ok (.iload 4, 2) := by decide +kernel
theorem dX1_levelPairs_94 : decode cX1_levelPairs 94 = .ok (.iconst 1, 1) := by decide +kernel
theorem dX1_levelPairs_95 : decode cX1_levelPairs 95 = .ok (.iload_n 1, 1) := by decide +kernel
theorem dX1_levelPairs_96 : decode cX1_levelPairs 96 = .ok (.invokevirtual 61, 3) := by decide +kernel
theorem dX1_levelPairs_99 : decode cX1_levelPairs 99 = .ok (.ifCond .eq 15, 3) := by decide +kernel
theorem dX1_levelPairs_102 : decode cX1_levelPairs 102 = .ok (.aload_n 0, 1) := by decide +kernel
theorem dX1_levelPairs_103 : decode cX1_levelPairs 103 = .ok (.getfield 13, 3) := by decide +kernel
theorem dX1_levelPairs_106 : decode cX1_levelPairs 106 = .ok (.iconst 5, 1) := by decide +kernel
theorem dX1_levelPairs_107 : decode cX1_levelPairs 107 = .ok (.iload_n 3, 1) := by decide +kernel
theorem dX1_levelPairs_108 : decode cX1_levelPairs 108 = .ok (.imul, 1) := by decide +kernel
theorem dX1_levelPairs_109 : decode cX1_levelPairs 109 = .ok (.iload 4, 2) := by decide +kernel
theorem dX1_levelPairs_111 : decode cX1_levelPairs 111 = .ok (.iadd, 1) := by decide +kernel
theorem dX1_levelPairs_112 : decode cX1_levelPairs 112 = .ok (.iload_n 1, 1) := by decide +kernel
theorem dX1_levelPairs_113 : decode cX1_levelPairs 113 = .ok (.iastore, 1) := by decide +kernel
theorem dX1_levelPairs_114 : decode cX1_levelPairs 114 = .ok (.iinc 2 1, 3) := by decide +kernel
theorem dX1_levelPairs_117 : decode cX1_levelPairs 117 = .ok (.goto (-84), 3) := by decide +kernel
theorem dX1_levelPairs_120 : decode cX1_levelPairs 120 = .ok (.iinc 1 1, 3) := by decide +kernel
theorem dX1_levelPairs_123 : decode cX1_levelPairs 123 = .ok (.goto (-98), 3) := by decide +kernel
theorem dX1_levelPairs_126 : decode cX1_levelPairs 126 = .ok (.return_, 1) := by decide +kernel
abbrev cX1_splits : ByteArray := prog_1_method_25_code
def yX1_splits : MethodName := ⟨RX1, "splits", "(IIII)Z"⟩
theorem dX1_splits_0 : decode cX1_splits 0 = .ok (.iload 4, 2) := by decide +kernel
theorem dX1_splits_2 : decode cX1_splits 2 = .ok (.iconst 1, 1) := by decide +kernel
theorem dX1_splits_3 : decode cX1_splits 3 = .ok (.if_icmp .ne 44, 3) := by decide +kernel
theorem dX1_splits_6 : decode cX1_splits 6 = .ok (.aload_n 0, 1) := by decide +kernel
theorem dX1_splits_7 : decode cX1_splits 7 = .ok (.iload_n 1, 1) := by decide +kernel
theorem dX1_splits_8 : decode cX1_splits 8 = .ok (.iload_n 3, 1) := by decide +kernel
theorem dX1_splits_9 : decode cX1_splits 9 = .ok (.invokevirtual 94, 3) := by decide +kernel
theorem dX1_splits_12 : decode cX1_splits 12 = .ok (.istore 5, 2) := by decide +kernel
theorem dX1_splits_14 : decode cX1_splits 14 = .ok (.aload_n 0, 1) := by decide +kernel
theorem dX1_splits_15 : decode cX1_splits 15 = .ok (.iload_n 2, 1) := by decide +kernel
theorem dX1_splits_16 : decode cX1_splits 16 = .ok (.iload_n 3, 1) := by decide +kernel
theorem dX1_splits_17 : decode cX1_splits 17 = .ok (.invokevirtual 94, 3) := by decide +kernel
theorem dX1_splits_20 : decode cX1_splits 20 = .ok (.istore 6, 2) := by decide +kernel
theorem dX1_splits_22 : decode cX1_splits 22 = .ok (.iload 5, 2) := by decide +kernel
theorem dX1_splits_24 : decode cX1_splits 24 = .ok (.iconst (-1), 1) := by decide +kernel
theorem dX1_splits_25 : decode cX1_splits 25 = .ok (.if_icmp .eq 20, 3) := by decide +kernel
theorem dX1_splits_28 : decode cX1_splits 28 = .ok (.iload 6, 2) := by decide +kernel
theorem dX1_splits_30 : decode cX1_splits 30 = .ok (.iconst (-1), 1) := by decide +kernel
theorem dX1_splits_31 : decode cX1_splits 31 = .ok (.if_icmp .eq 14, 3) := by decide +kernel
theorem dX1_splits_34 : decode cX1_splits 34 = .ok (.iload 5, 2) := by decide +kernel
theorem dX1_splits_36 : decode cX1_splits 36 = .ok (.iload 6, 2) := by decide +kernel
theorem dX1_splits_38 : decode cX1_splits 38 = .ok (.if_icmp .eq 7, 3) := by decide +kernel
theorem dX1_splits_41 : decode cX1_splits 41 = .ok (.iconst 1, 1) := by decide +kernel
theorem dX1_splits_42 : decode cX1_splits 42 = .ok (.goto 4, 3) := by decide +kernel
theorem dX1_splits_45 : decode cX1_splits 45 = .ok (.iconst 0, 1) := by decide +kernel
theorem dX1_splits_46 : decode cX1_splits 46 = .ok (.ireturn, 1) := by decide +kernel
theorem dX1_splits_47 : decode cX1_splits 47 = .ok (.aload_n 0, 1) := by decide +kernel
theorem dX1_splits_48 : decode cX1_splits 48 = .ok (.iload_n 1, 1) := by decide +kernel
theorem dX1_splits_49 : decode cX1_splits 49 = .ok (.iload_n 3, 1) := by decide +kernel
theorem dX1_splits_50 : decode cX1_splits 50 = .ok (.invokevirtual 65, 3) := by decide +kernel
theorem dX1_splits_53 : decode cX1_splits 53 = .ok (.istore 5, 2) := by decide +kernel
theorem dX1_splits_55 : decode cX1_splits 55 = .ok (.aload_n 0, 1) := by decide +kernel
theorem dX1_splits_56 : decode cX1_splits 56 = .ok (.iload_n 2, 1) := by decide +kernel
theorem dX1_splits_57 : decode cX1_splits 57 = .ok (.iload_n 3, 1) := by decide +kernel
theorem dX1_splits_58 : decode cX1_splits 58 = .ok (.invokevirtual 65, 3) := by decide +kernel
theorem dX1_splits_61 : decode cX1_splits 61 = .ok (.istore 6, 2) := by decide +kernel
theorem dX1_splits_63 : decode cX1_splits 63 = .ok (.iload 5, 2) := by decide +kernel
theorem dX1_splits_65 : decode cX1_splits 65 = .ok (.iconst (-1), 1) := by decide +kernel
theorem dX1_splits_66 : decode cX1_splits 66 = .ok (.if_icmp .eq 32, 3) := by decide +kernel
theorem dX1_splits_69 : decode cX1_splits 69 = .ok (.iload 6, 2) := by decide +kernel
theorem dX1_splits_71 : decode cX1_splits 71 = .ok (.iconst (-1), 1) := by decide +kernel
theorem dX1_splits_72 : decode cX1_splits 72 = .ok (.if_icmp .eq 26, 3) := by decide +kernel
theorem dX1_splits_75 : decode cX1_splits 75 = .ok (.aload_n 0, 1) := by decide +kernel
theorem dX1_splits_76 : decode cX1_splits 76 = .ok (.getfield 13, 3) := by decide +kernel
theorem dX1_splits_79 : decode cX1_splits 79 = .ok (.iconst 5, 1) := by decide +kernel
theorem dX1_splits_80 : decode cX1_splits 80 = .ok (.iload 5, 2) := by decide +kernel
theorem dX1_splits_82 : decode cX1_splits 82 = .ok (.imul, 1) := by decide +kernel
theorem dX1_splits_83 : decode cX1_splits 83 = .ok (.iload 6, 2) := by decide +kernel
theorem dX1_splits_85 : decode cX1_splits 85 = .ok (.iadd, 1) := by decide +kernel
theorem dX1_splits_86 : decode cX1_splits 86 = .ok (.iaload, 1) := by decide +kernel
theorem dX1_splits_87 : decode cX1_splits 87 = .ok (.iload 4, 2) := by decide +kernel
theorem dX1_splits_89 : decode cX1_splits 89 = .ok (.iconst 1, 1) := by decide +kernel
theorem dX1_splits_90 : decode cX1_splits 90 = .ok (.isub, 1) := by decide +kernel
theorem dX1_splits_91 : decode cX1_splits 91 = .ok (.if_icmp .ne 7, 3) := by decide +kernel
theorem dX1_splits_94 : decode cX1_splits 94 = .ok (.iconst 1, 1) := by decide +kernel
theorem dX1_splits_95 : decode cX1_splits 95 = .ok (.goto 4, 3) := by decide +kernel
theorem dX1_splits_98 : decode cX1_splits 98 = .ok (.iconst 0, 1) := by decide +kernel
theorem dX1_splits_99 : decode cX1_splits 99 = .ok (.ireturn, 1) := by decide +kernel
abbrev cX1_output : ByteArray := prog_1_method_22_code
def yX1_output : MethodName := ⟨RX1, "output", "(II)I"⟩
theorem dX1_output_0 : decode cX1_output 0 = .ok (.aload_n 0, 1) := by decide +kernel
theorem dX1_output_1 : decode cX1_output 1 = .ok (.getfield 7, 3) := by decide +kernel
theorem dX1_output_4 : decode cX1_output 4 = .ok (.iconst 2, 1) := by decide +kernel
theorem dX1_output_5 : decode cX1_output 5 = .ok (.iload_n 1, 1) := by decide +kernel
theorem dX1_output_6 : decode cX1_output 6 = .ok (.imul, 1) := by decide +kernel
theorem dX1_output_7 : decode cX1_output 7 = .ok (.iload_n 2, 1) := by decide +kernel
theorem dX1_output_8 : decode cX1_output 8 = .ok (.iadd, 1) := by decide +kernel
theorem dX1_output_9 : decode cX1_output 9 = .ok (.iaload, 1) := by decide +kernel
theorem dX1_output_10 : decode cX1_output 10 = .ok (.iconst 3, 1) := by decide +kernel
theorem dX1_output_11 : decode cX1_output 11 = .ok (.irem, 1) := by decide +kernel
theorem dX1_output_12 : decode cX1_output 12 = .ok (.iconst 1, 1) := by decide +kernel
theorem dX1_output_13 : decode cX1_output 13 = .ok (.isub, 1) := by decide +kernel
theorem dX1_output_14 : decode cX1_output 14 = .ok (.ireturn, 1) := by decide +kernel
abbrev cX1_next : ByteArray := prog_1_method_21_code
def yX1_next : MethodName := ⟨RX1, "next", "(II)I"⟩
theorem dX1_next_0 : decode cX1_next 0 = .ok (.aload_n 0, 1) := by decide +kernel
theorem dX1_next_1 : decode cX1_next 1 = .ok (.getfield 7, 3) := by decide +kernel
theorem dX1_next_4 : decode cX1_next 4 = .ok (.iconst 2, 1) := by decide +kernel
theorem dX1_next_5 : decode cX1_next 5 = .ok (.iload_n 1, 1) := by decide +kernel
theorem dX1_next_6 : decode cX1_next 6 = .ok (.imul, 1) := by decide +kernel
theorem dX1_next_7 : decode cX1_next 7 = .ok (.iload_n 2, 1) := by decide +kernel
theorem dX1_next_8 : decode cX1_next 8 = .ok (.iadd, 1) := by decide +kernel
theorem dX1_next_9 : decode cX1_next 9 = .ok (.iaload, 1) := by decide +kernel
theorem dX1_next_10 : decode cX1_next 10 = .ok (.iconst 3, 1) := by decide +kernel
theorem dX1_next_11 : decode cX1_next 11 = .ok (.idiv, 1) := by decide +kernel
theorem dX1_next_12 : decode cX1_next 12 = .ok (.iconst 1, 1) := by decide +kernel
theorem dX1_next_13 : decode cX1_next 13 = .ok (.isub, 1) := by decide +kernel
theorem dX1_next_14 : decode cX1_next 14 = .ok (.ireturn, 1) := by decide +kernel
abbrev cX1_listSets : ByteArray := prog_1_method_28_code
def yX1_listSets : MethodName := ⟨RX1, "listSets", "()V"⟩
theorem dX1_listSets_0 : decode cX1_listSets 0 = .ok (.aload_n 0, 1) := by decide +kernel
theorem dX1_listSets_1 : decode cX1_listSets 1 = .ok (.iconst 0, 1) := by decide +kernel
theorem dX1_listSets_2 : decode cX1_listSets 2 = .ok (.putfield 112, 3) := by decide +kernel
theorem dX1_listSets_5 : decode cX1_listSets 5 = .ok (.iconst 1, 1) := by decide +kernel
theorem dX1_listSets_6 : decode cX1_listSets 6 = .ok (.istore_n 1, 1) := by decide +kernel
theorem dX1_listSets_7 : decode cX1_listSets 7 = .ok (.iload_n 1, 1) := by decide +kernel
theorem dX1_listSets_8 : decode cX1_listSets 8 = .ok (.iconst 1, 1) := by decide +kernel
theorem dX1_listSets_9 : decode cX1_listSets 9 = .ok (.aload_n 0, 1) := by decide +kernel
theorem dX1_listSets_10 : decode cX1_listSets 10 = .ok (.getfield 40, 3) := by decide +kernel
theorem dX1_listSets_13 : decode cX1_listSets 13 = .ok (.ishl, 1) := by decide +kernel
theorem dX1_listSets_14 : decode cX1_listSets 14 = .ok (.if_icmp .ge 37, 3) := by decide +kernel
theorem dX1_listSets_17 : decode cX1_listSets 17 = .ok (.aload_n 0, 1) := by decide +kernel
theorem dX1_listSets_18 : decode cX1_listSets 18 = .ok (.iload_n 1, 1) := by decide +kernel
theorem dX1_listSets_19 : decode cX1_listSets 19 = .ok (.invokevirtual 72, 3) := by decide +kernel
theorem dX1_listSets_22 : decode cX1_listSets 22 = .ok (.ifCond .eq 23, 3) := by decide +kernel
theorem dX1_listSets_25 : decode cX1_listSets 25 = .ok (.aload_n 0, 1) := by decide +kernel
theorem dX1_listSets_26 : decode cX1_listSets 26 = .ok (.getfield 16, 3) := by decide +kernel
theorem dX1_listSets_29 : decode cX1_listSets 29 = .ok (.aload_n 0, 1) := by decide +kernel
theorem dX1_listSets_30 : decode cX1_listSets 30 = .ok (.getfield 112, 3) := by decide +kernel
theorem dX1_listSets_33 : decode cX1_listSets 33 = .ok (.iload_n 1, 1) := by decide +kernel
theorem dX1_listSets_34 : decode cX1_listSets 34 = .ok (.iastore, 1) := by decide +kernel
theorem dX1_listSets_35 : decode cX1_listSets 35 = .ok (.aload_n 0, 1) := by decide +kernel
theorem dX1_listSets_36 : decode cX1_listSets 36 = .ok (.dup, 1) := by decide +kernel
theorem dX1_listSets_37 : decode cX1_listSets 37 = .ok (.getfield 112, 3) := by decide +kernel
theorem dX1_listSets_40 : decode cX1_listSets 40 = .ok (.iconst 1, 1) := by decide +kernel
theorem dX1_listSets_41 : decode cX1_listSets 41 = .ok (.iadd, 1) := by decide +kernel
theorem dX1_listSets_42 : decode cX1_listSets 42 = .ok (.putfield 112, 3) := by decide +kernel
theorem dX1_listSets_45 : decode cX1_listSets 45 = .ok (.iinc 1 1, 3) := by decide +kernel
theorem dX1_listSets_48 : decode cX1_listSets 48 = .ok (.goto (-41), 3) := by decide +kernel
theorem dX1_listSets_51 : decode cX1_listSets 51 = .ok (.aload_n 0, 1) := by decide +kernel
theorem dX1_listSets_52 : decode cX1_listSets 52 = .ok (.getfield 19, 3) := by decide +kernel
theorem dX1_listSets_55 : decode cX1_listSets 55 = .ok (.aload_n 0, 1) := by decide +kernel
theorem dX1_listSets_56 : decode cX1_listSets 56 = .ok (.getfield 112, 3) := by decide +kernel
theorem dX1_listSets_59 : decode cX1_listSets 59 = .ok (.iconst 0, 1) := by decide +kernel
theorem dX1_listSets_60 : decode cX1_listSets 60 = .ok (.iastore, 1) := by decide +kernel
theorem dX1_listSets_61 : decode cX1_listSets 61 = .ok (.aload_n 0, 1) := by decide +kernel
theorem dX1_listSets_62 : decode cX1_listSets 62 = .ok (.getfield 112, 3) := by decide +kernel
theorem dX1_listSets_65 : decode cX1_listSets 65 = .ok (.iconst 1, 1) := by decide +kernel
theorem dX1_listSets_66 : decode cX1_listSets 66 = .ok (.isub, 1) := by decide +kernel
theorem dX1_listSets_67 : decode cX1_listSets 67 = .ok (.istore_n 1, 1) := by decide +kernel
theorem dX1_listSets_68 : decode cX1_listSets 68 = .ok (.iload_n 1, 1) := by decide +kernel
theorem dX1_listSets_69 : decode cX1_listSets 69 = .ok (.ifCond .lt 30, 3) := by decide +kernel
theorem dX1_listSets_72 : decode cX1_listSets 72 = .ok (.aload_n 0, 1) := by decide +kernel
theorem dX1_listSets_73 : decode cX1_listSets 73 = .ok (.getfield 19, 3) := by decide +kernel
theorem dX1_listSets_76 : decode cX1_listSets 76 = .ok (.iload_n 1, 1) := by decide +kernel
theorem dX1_listSets_77 : decode cX1_listSets 77 = .ok (.aload_n 0, 1) := by decide +kernel
theorem dX1_listSets_78 : decode cX1_listSets 78 = .ok (.getfield 19, 3) := by decide +kernel
theorem dX1_listSets_81 : decode cX1_listSets 81 = .ok (.iload_n 1, 1) := by decide +kernel
theorem dX1_listSets_82 : decode cX1_listSets 82 = .ok (.iconst 1, 1) := by decide +kernel
theorem dX1_listSets_83 : decode cX1_listSets 83 = .ok (.iadd, 1) := by decide +kernel
theorem dX1_listSets_84 : decode cX1_listSets 84 = .ok (.iaload, 1) := by decide +kernel
theorem dX1_listSets_85 : decode cX1_listSets 85 = .ok (.aload_n 0, 1) := by decide +kernel
theorem dX1_listSets_86 : decode cX1_listSets 86 = .ok (.getfield 16, 3) := by decide +kernel
theorem dX1_listSets_89 : decode cX1_listSets 89 = .ok (.iload_n 1, 1) := by decide +kernel
theorem dX1_listSets_90 : decode cX1_listSets 90 = .ok (.iaload, 1) := by decide +kernel
theorem dX1_listSets_91 : decode cX1_listSets 91 = .ok (.ior, 1) := by decide +kernel
theorem dX1_listSets_92 : decode cX1_listSets 92 = .ok (.iastore, 1) := by decide +kernel
theorem dX1_listSets_93 : decode cX1_listSets 93 = .ok (.iinc 1 (-1), 3) := by decide +kernel
theorem dX1_listSets_96 : decode cX1_listSets 96 = .ok (.goto (-28), 3) := by decide +kernel
theorem dX1_listSets_99 : decode cX1_listSets 99 = .ok (.return_, 1) := by decide +kernel
end
section
set_option maxRecDepth 100000
abbrev cX1_holdsTogether : ByteArray := prog_1_method_27_code
def yX1_holdsTogether : MethodName := ⟨RX1, "holdsTogether", "(I)Z"⟩
theorem dX1_holdsTogether_0 : decode cX1_holdsTogether 0 = .ok (.iconst 0, 1) := by decide +kernel
theorem dX1_holdsTogether_1 : decode cX1_holdsTogether 1 = .ok (.istore_n 2, 1) := by decide +kernel
theorem dX1_holdsTogether_2 : decode cX1_holdsTogether 2 = .ok (.iload_n 2, 1) := by decide +kernel
theorem dX1_holdsTogether_3 : decode cX1_holdsTogether 3 = .ok (.aload_n 0, 1) := by decide +kernel
theorem dX1_holdsTogether_4 : decode cX1_holdsTogether 4 = .ok (.getfield 40, 3) := by decide +kernel
theorem dX1_holdsTogether_7 : decode cX1_holdsTogether 7 = .ok (.aload_n 0, 1) := by decide +kernel
theorem dX1_holdsTogether_8 : decode cX1_holdsTogether 8 = .ok (.getfield 40, 3) := by decide +kernel
theorem dX1_holdsTogether_11 : decode cX1_holdsTogether 11 = .ok (.imul, 1) := by decide +kernel
theorem dX1_holdsTogether_12 : decode cX1_holdsTogether 12 = .ok (.if_icmp .ge 62, 3) := by decide +kernel
theorem dX1_holdsTogether_15 : decode cX1_holdsTogether 15 = .ok (.iload_n 2, 1) := by decide +kernel
theorem dX1_holdsTogether_16 : decode cX1_holdsTogether 16 = .ok (.aload_n 0, 1) := by decide +kernel
theorem dX1_holdsTogether_17 : decode cX1_holdsTogether 17 = .ok (.getfield 40, 3) := by decide +kernel
theorem dX1_holdsTogether_20 : decode cX1_holdsTogether 20 = .ok (.idiv, 1) := by decide +kernel
theorem dX1_holdsTogether_21 : decode cX1_holdsTogether 21 = .ok (.istore_n 3, 1) := by decide +kernel
theorem dX1_holdsTogether_22 : decode cX1_holdsTogether 22 = .ok (.iload_n 2, 1) := by decide +kernel
theorem dX1_holdsTogether_23 : decode cX1_holdsTogether 23 = .ok (.aload_n 0, 1) := by decide +kernel
theorem dX1_holdsTogether_24 : decode cX1_holdsTogether 24 = .ok (.getfield 40, 3) := by decide +kernel
theorem dX1_holdsTogether_27 : decode cX1_holdsTogether 27 = .ok (.irem, 1) := by decide +kernel
theorem dX1_holdsTogether_28 : decode cX1_holdsTogether 28 = .ok (.istore 4, 2) := by decide +kernel
theorem dX1_holdsTogether_30 : decode cX1_holdsTogether 30 = .ok (.iload_n 1, 1) := by decide +kernel
theorem dX1_holdsTogether_31 : decode cX1_holdsTogether 31 = .ok (.iload_n 3, 1) := by decide +kernel
theorem dX1_holdsTogether_32 : decode cX1_holdsTogether 32 = .ok (.ishr, 1) := by decide +kernel
theorem dX1_holdsTogether_33 : decode cX1_holdsTogether 33 = .ok (.iconst 1, 1) := by decide +kernel
theorem dX1_holdsTogether_34 : decode cX1_holdsTogether 34 = .ok (.iand, 1) := by decide +kernel
theorem dX1_holdsTogether_35 : decode cX1_holdsTogether 35 = .ok (.iconst 1, 1) := by decide +kernel
theorem dX1_holdsTogether_36 : decode cX1_holdsTogether 36 = .ok (.if_icmp .ne 32, 3) := by decide +kernel
theorem dX1_holdsTogether_39 : decode cX1_holdsTogether 39 = .ok (.iload_n 1, 1) := by decide +kernel
theorem dX1_holdsTogether_40 : decode cX1_holdsTogether 40 = .ok (.iload 4, 2) := by decide +kernel
theorem dX1_holdsTogether_42 : decode cX1_holdsTogether 42 = .ok (.ishr, 1) := by decide +kernel
theorem dX1_holdsTogether_43 : decode cX1_holdsTogether 43 = .ok (.iconst 1, 1) := by decide +kernel
theorem dX1_holdsTogether_44 : decode cX1_holdsTogether 44 = .ok (.iand, 1) := by decide +kernel
theorem dX1_holdsTogether_45 : decode cX1_holdsTogether 45 = .ok (.iconst 1, 1) := by decide +kernel
theorem dX1_holdsTogether_46 : decode cX1_holdsTogether 46 = .ok (.if_icmp .ne 22, 3) := by decide +kernel
theorem dX1_holdsTogether_49 : decode cX1_holdsTogether 49 = .ok (.aload_n 0, 1) := by decide +kernel
theorem dX1_holdsTogether_50 : decode cX1_holdsTogether 50 = .ok (.getfield 13, 3) := by decide +kernel
theorem dX1_holdsTogether_53 : decode cX1_holdsTogether 53 = .ok (.iconst 5, 1) := by decide +kernel
theorem dX1_holdsTogether_54 : decode cX1_holdsTogether 54 = .ok (.iload_n 3, 1) := by decide +kernel
theorem dX1_holdsTogether_55 : decode cX1_holdsTogether 55 = .ok (.imul, 1) := by decide +kernel
theorem dX1_holdsTogether_56 : decode cX1_holdsTogether 56 = .ok (.iload 4, 2) := by decide +kernel
theorem dX1_holdsTogether_58 : decode cX1_holdsTogether 58 = .ok (.iadd, 1) := by decide +kernel
theorem dX1_holdsTogether_59 : decode cX1_holdsTogether 59 = .ok (.iaload, 1) := by decide +kernel
theorem dX1_holdsTogether_60 : decode cX1_holdsTogether 60 = .ok (.sipush 1000, 3) := by decide +kernel
theorem dX1_holdsTogether_63 : decode cX1_holdsTogether 63 = .ok (.if_icmp .eq 5, 3) := by decide +kernel
theorem dX1_holdsTogether_66 : decode cX1_holdsTogether 66 = .ok (.iconst 0, 1) := by decide +kernel
theorem dX1_holdsTogether_67 : decode cX1_holdsTogether 67 = .ok (.ireturn, 1) := by decide +kernel
theorem dX1_holdsTogether_68 : decode cX1_holdsTogether 68 = .ok (.iinc 2 1, 3) := by decide +kernel
theorem dX1_holdsTogether_71 : decode cX1_holdsTogether 71 = .ok (.goto (-69), 3) := by decide +kernel
theorem dX1_holdsTogether_74 : decode cX1_holdsTogether 74 = .ok (.iconst 1, 1) := by decide +kernel
theorem dX1_holdsTogether_75 : decode cX1_holdsTogether 75 = .ok (.ireturn, 1) := by decide +kernel
abbrev cX1_listLargest : ByteArray := prog_1_method_29_code
def yX1_listLargest : MethodName := ⟨RX1, "listLargest", "()V"⟩
theorem dX1_listLargest_0 : decode cX1_listLargest 0 = .ok (.aload_n 0, 1) := by decide +kernel
theorem dX1_listLargest_1 : decode cX1_listLargest 1 = .ok (.iconst 0, 1) := by decide +kernel
theorem dX1_listLargest_2 : decode cX1_listLargest 2 = .ok (.putfield 75, 3) := by decide +kernel
theorem dX1_listLargest_5 : decode cX1_listLargest 5 = .ok (.iconst 0, 1) := by decide +kernel
theorem dX1_listLargest_6 : decode cX1_listLargest 6 = .ok (.istore_n 1, 1) := by decide +kernel
theorem dX1_listLargest_7 : decode cX1_listLargest 7 = .ok (.iload_n 1, 1) := by decide +kernel
theorem dX1_listLargest_8 : decode cX1_listLargest 8 = .ok (.aload_n 0, 1) := by decide +kernel
theorem dX1_listLargest_9 : decode cX1_listLargest 9 = .ok (.getfield 112, 3) := by decide +kernel
theorem dX1_listLargest_12 : decode cX1_listLargest 12 = .ok (.if_icmp .ge 86, 3) := by decide +kernel
theorem dX1_listLargest_15 : decode cX1_listLargest 15 = .ok (.iconst 1, 1) := by decide +kernel
theorem dX1_listLargest_16 : decode cX1_listLargest 16 = .ok (.istore_n 2, 1) := by decide +kernel
theorem dX1_listLargest_17 : decode cX1_listLargest 17 = .ok (.iload_n 1, 1) := by decide +kernel
theorem dX1_listLargest_18 : decode cX1_listLargest 18 = .ok (.iconst 1, 1) := by decide +kernel
theorem dX1_listLargest_19 : decode cX1_listLargest 19 = .ok (.iadd, 1) := by decide +kernel
theorem dX1_listLargest_20 : decode cX1_listLargest 20 = .ok (.istore_n 3, 1) := by decide +kernel
theorem dX1_listLargest_21 : decode cX1_listLargest 21 = .ok (.iload_n 3, 1) := by decide +kernel
theorem dX1_listLargest_22 : decode cX1_listLargest 22 = .ok (.aload_n 0, 1) := by decide +kernel
theorem dX1_listLargest_23 : decode cX1_listLargest 23 = .ok (.getfield 112, 3) := by decide +kernel
theorem dX1_listLargest_26 : decode cX1_listLargest 26 = .ok (.if_icmp .ge 37, 3) := by decide +kernel
theorem dX1_listLargest_29 : decode cX1_listLargest 29 = .ok (.iload_n 2, 1) := by decide +kernel
theorem dX1_listLargest_30 : decode cX1_listLargest 30 = .ok (.ifCond .eq 25, 3) := by decide +kernel
theorem dX1_listLargest_33 : decode cX1_listLargest 33 = .ok (.aload_n 0, 1) := by decide +kernel
theorem dX1_listLargest_34 : decode cX1_listLargest 34 = .ok (.getfield 16, 3) := by decide +kernel
theorem dX1_listLargest_37 : decode cX1_listLargest 37 = .ok (.iload_n 1, 1) := by decide +kernel
theorem dX1_listLargest_38 : decode cX1_listLargest 38 = .ok (.iaload, 1) := by decide +kernel
theorem dX1_listLargest_39 : decode cX1_listLargest 39 = .ok (.aload_n 0, 1) := by decide +kernel
theorem dX1_listLargest_40 : decode cX1_listLargest 40 = .ok (.getfield 16, 3) := by decide +kernel
theorem dX1_listLargest_43 : decode cX1_listLargest 43 = .ok (.iload_n 3, 1) := by decide +kernel
theorem dX1_listLargest_44 : decode cX1_listLargest 44 = .ok (.iaload, 1) := by decide +kernel
theorem dX1_listLargest_45 : decode cX1_listLargest 45 = .ok (.iconst (-1), 1) := by decide +kernel
theorem dX1_listLargest_46 : decode cX1_listLargest 46 = .ok (.ixor, 1) := by decide +kernel
theorem dX1_listLargest_47 : decode cX1_listLargest 47 = .ok (.iand, 1) := by decide +kernel
theorem dX1_listLargest_48 : decode cX1_listLargest 48 = .ok (.ifCond .eq 7, 3) := by decide +kernel
theorem dX1_listLargest_51 : decode cX1_listLargest 51 = .ok (.iconst 1, 1) := by decide +kernel
theorem dX1_listLargest_52 : decode cX1_listLargest 52 = .ok (.goto 4, 3) := by decide +kernel
theorem dX1_listLargest_55 : decode cX1_listLargest 55 = .ok (.iconst 0, 1) := by decide +kernel
theorem dX1_listLargest_56 : decode cX1_listLargest 56 = .ok (.istore_n 2, 1) := by decide +kernel
theorem dX1_listLargest_57 : decode cX1_listLargest 57 = .ok (.iinc 3 1, 3) := by decide +kernel
theorem dX1_listLargest_60 : decode cX1_listLargest 60 = .ok (.goto (-39), 3) := by decide +kernel
theorem dX1_listLargest_63 : decode cX1_listLargest 63 = .ok (.iload_n 2, 1) := by decide +kernel
theorem dX1_listLargest_64 : decode cX1_listLargest 64 = .ok (.ifCond .eq 28, 3) := by decide +kernel
theorem dX1_listLargest_67 : decode cX1_listLargest 67 = .ok (.aload_n 0, 1) := by decide +kernel
theorem dX1_listLargest_68 : decode cX1_listLargest 68 = .ok (.getfield 22, 3) := by decide +kernel
theorem dX1_listLargest_71 : decode cX1_listLargest 71 = .ok (.aload_n 0, 1) := by decide +kernel
theorem dX1_listLargest_72 : decode cX1_listLargest 72 = .ok (.getfield 75, 3) := by decide +kernel
theorem dX1_listLargest_75 : decode cX1_listLargest 75 = .ok (.aload_n 0, 1) := by decide +kernel
theorem dX1_listLargest_76 : decode cX1_listLargest 76 = .ok (.getfield 16, 3) := by decide +kernel
theorem dX1_listLargest_79 : decode cX1_listLargest 79 = .ok (.iload_n 1, 1) := by decide +kernel
theorem dX1_listLargest_80 : decode cX1_listLargest 80 = .ok (.iaload, 1) := by decide +kernel
theorem dX1_listLargest_81 : decode cX1_listLargest 81 = .ok (.iastore, 1) := by decide +kernel
theorem dX1_listLargest_82 : decode cX1_listLargest 82 = .ok (.aload_n 0, 1) := by decide +kernel
theorem dX1_listLargest_83 : decode cX1_listLargest 83 = .ok (.dup, 1) := by decide +kernel
theorem dX1_listLargest_84 : decode cX1_listLargest 84 = .ok (.getfield 75, 3) := by decide +kernel
theorem dX1_listLargest_87 : decode cX1_listLargest 87 = .ok (.iconst 1, 1) := by decide +kernel
theorem dX1_listLargest_88 : decode cX1_listLargest 88 = .ok (.iadd, 1) := by decide +kernel
theorem dX1_listLargest_89 : decode cX1_listLargest 89 = .ok (.putfield 75, 3) := by decide +kernel
theorem dX1_listLargest_92 : decode cX1_listLargest 92 = .ok (.iinc 1 1, 3) := by decide +kernel
theorem dX1_listLargest_95 : decode cX1_listLargest 95 = .ok (.goto (-88), 3) := by decide +kernel
theorem dX1_listLargest_98 : decode cX1_listLargest 98 = .ok (.return_, 1) := by decide +kernel
abbrev cX1_findCover : ByteArray := prog_1_method_31_code
def yX1_findCover : MethodName := ⟨RX1, "findCover", "(I)Z"⟩
theorem dX1_findCover_0 : decode cX1_findCover 0 = .ok (.iconst 1, 1) := by decide +kernel
theorem dX1_findCover_1 : decode cX1_findCover 1 = .ok (.aload_n 0, 1) := by decide +kernel
theorem dX1_findCover_2 : decode cX1_findCover 2 = .ok (.getfield 40, 3) := by decide +kernel
theorem dX1_findCover_5 : decode cX1_findCover 5 = .ok (.ishl, 1) := by decide +kernel
theorem dX1_findCover_6 : decode cX1_findCover 6 = .ok (.iconst 1, 1) := by decide +kernel
theorem dX1_findCover_7 : decode cX1_findCover 7 = .ok (.isub, 1) := by decide +kernel
theorem dX1_findCover_8 : decode cX1_findCover 8 = .ok (.istore_n 2, 1) := by decide +kernel
theorem dX1_findCover_9 : decode cX1_findCover 9 = .ok (.iconst 0, 1) := by decide +kernel
theorem dX1_findCover_10 : decode cX1_findCover 10 = .ok (.istore_n 3, 1) := by decide +kernel
theorem dX1_findCover_11 : decode cX1_findCover 11 = .ok (.aload_n 0, 1) := by decide +kernel
theorem dX1_findCover_12 : decode cX1_findCover 12 = .ok (.getfield 25, 3) := by decide +kernel
theorem dX1_findCover_15 : decode cX1_findCover 15 = .ok (.iconst 0, 1) := by decide +kernel
theorem dX1_findCover_16 : decode cX1_findCover 16 = .ok (.iconst (-1), 1) := by decide +kernel
theorem dX1_findCover_17 : decode cX1_findCover 17 = .ok (.iastore, 1) := by decide +kernel
theorem dX1_findCover_18 : decode cX1_findCover 18 = .ok (.iconst 0, 1) := by decide +kernel
theorem dX1_findCover_19 : decode cX1_findCover 19 = .ok (.istore 4, 2) := by decide +kernel
theorem dX1_findCover_21 : decode cX1_findCover 21 = .ok (.iload 4, 2) := by decide +kernel
theorem dX1_findCover_23 : decode cX1_findCover 23 = .ok (.ldc 115, 2) := by decide +kernel
theorem dX1_findCover_25 : decode cX1_findCover 25 = .ok (.if_icmp .ge 151, 3) := by decide +kernel
theorem dX1_findCover_28 : decode cX1_findCover 28 = .ok (.aload_n 0, 1) := by decide +kernel
theorem dX1_findCover_29 : decode cX1_findCover 29 = .ok (.getfield 25, 3) := by decide +kernel
theorem dX1_findCover_32 : decode cX1_findCover 32 = .ok (.iload_n 3, 1) := by decide +kernel
theorem dX1_findCover_33 : decode cX1_findCover 33 = .ok (.dup2, 1) := by decide +kernel
theorem dX1_findCover_34 : decode cX1_findCover 34 = .ok (.iaload, 1) := by decide +kernel
theorem dX1_findCover_35 : decode cX1_findCover 35 = .ok (.iconst 1, 1) := by decide +kernel
theorem dX1_findCover_36 : decode cX1_findCover 36 = .ok (.iadd, 1) := by decide +kernel
theorem dX1_findCover_37 : decode cX1_findCover 37 = .ok (.iastore, 1) := by decide +kernel
theorem dX1_findCover_38 : decode cX1_findCover 38 = .ok (.aload_n 0, 1) := by decide +kernel
theorem dX1_findCover_39 : decode cX1_findCover 39 = .ok (.getfield 25, 3) := by decide +kernel
theorem dX1_findCover_42 : decode cX1_findCover 42 = .ok (.iload_n 3, 1) := by decide +kernel
theorem dX1_findCover_43 : decode cX1_findCover 43 = .ok (.iaload, 1) := by decide +kernel
theorem dX1_findCover_44 : decode cX1_findCover 44 = .ok (.aload_n 0, 1) := by decide +kernel
theorem dX1_findCover_45 : decode cX1_findCover 45 = .ok (.getfield 112, 3) := by decide +kernel
theorem dX1_findCover_48 : decode cX1_findCover 48 = .ok (.iload_n 1, 1) := by decide +kernel
theorem dX1_findCover_49 : decode cX1_findCover 49 = .ok (.isub, 1) := by decide +kernel
theorem dX1_findCover_50 : decode cX1_findCover 50 = .ok (.iload_n 3, 1) := by decide +kernel
theorem dX1_findCover_51 : decode cX1_findCover 51 = .ok (.iadd, 1) := by decide +kernel
theorem dX1_findCover_52 : decode cX1_findCover 52 = .ok (.if_icmp .le 12, 3) := by decide +kernel
theorem dX1_findCover_55 : decode cX1_findCover 55 = .ok (.iinc 3 (-1), 3) := by decide +kernel
theorem dX1_findCover_58 : decode cX1_findCover 58 = .ok (.iload_n 3, 1) := by decide +kernel
theorem dX1_findCover_59 : decode cX1_findCover 59 = .ok (.ifCond .ge 111, 3) := by decide +kernel
theorem dX1_findCover_62 : decode cX1_findCover 62 = .ok (.iconst 0, 1) := by decide +kernel
theorem dX1_findCover_63 : decode cX1_findCover 63 = .ok (.ireturn, 1) := by decide +kernel
theorem dX1_findCover_64 : decode cX1_findCover 64 = .ok (.iload_n 3, 1) := by decide +kernel
theorem dX1_findCover_65 : decode cX1_findCover 65 = .ok (.ifCond .le 14, 3) := by decide +kernel
theorem dX1_findCover_68 : decode cX1_findCover 68 = .ok (.aload_n 0, 1) := by decide +kernel
theorem dX1_findCover_69 : decode cX1_findCover 69 = .ok (.getfield 28, 3) := by decide +kernel
theorem dX1_findCover_72 : decode cX1_findCover 72 = .ok (.iload_n 3, 1) := by decide +kernel
theorem dX1_findCover_73 : decode cX1_findCover 73 = .ok (.iconst 1, 1) := by decide +kernel
theorem dX1_findCover_74 : decode cX1_findCover 74 = .ok (.isub, 1) := by decide +kernel
theorem dX1_findCover_75 : decode cX1_findCover 75 = .ok (.iaload, 1) := by decide +kernel
theorem dX1_findCover_76 : decode cX1_findCover 76 = .ok (.goto 4, 3) := by decide +kernel
theorem dX1_findCover_79 : decode cX1_findCover 79 = .ok (.iconst 0, 1) := by decide +kernel
theorem dX1_findCover_80 : decode cX1_findCover 80 = .ok (.istore 5, 2) := by decide +kernel
theorem dX1_findCover_82 : decode cX1_findCover 82 = .ok (.aload_n 0, 1) := by decide +kernel
theorem dX1_findCover_83 : decode cX1_findCover 83 = .ok (.getfield 28, 3) := by decide +kernel
theorem dX1_findCover_86 : decode cX1_findCover 86 = .ok (.iload_n 3, 1) := by decide +kernel
theorem dX1_findCover_87 : decode cX1_findCover 87 = .ok (.iload 5, 2) := by decide +kernel
theorem dX1_findCover_89 : decode cX1_findCover 89 = .ok (.aload_n 0, 1) := by decide +kernel
theorem dX1_findCover_90 : decode cX1_findCover 90 = .ok (.getfield 16, 3) := by decide +kernel
theorem dX1_findCover_93 : decode cX1_findCover 93 = .ok (.aload_n 0, 1) := by decide +kernel
theorem dX1_findCover_94 : decode cX1_findCover 94 = .ok (.getfield 25, 3) := by decide +kernel
theorem dX1_findCover_97 : decode cX1_findCover 97 = .ok (.iload_n 3, 1) := by decide +kernel
theorem dX1_findCover_98 : decode cX1_findCover 98 = .ok (.iaload, 1) := by decide +kernel
theorem dX1_findCover_99 : decode cX1_findCover 99 = .ok (.iaload, 1) := by decide +kernel
theorem dX1_findCover_100 : decode cX1_findCover 100 = .ok (.ior, 1) := by decide +kernel
theorem dX1_findCover_101 : decode cX1_findCover 101 = .ok (.iastore, 1) := by decide +kernel
theorem dX1_findCover_102 : decode cX1_findCover 102 = .ok (.iload_n 3, 1) := by decide +kernel
theorem dX1_findCover_103 : decode cX1_findCover 103 = .ok (.iload_n 1, 1) := by decide +kernel
theorem dX1_findCover_104 : decode cX1_findCover 104 = .ok (.iconst 1, 1) := by decide +kernel
theorem dX1_findCover_105 : decode cX1_findCover 105 = .ok (.isub, 1) := by decide +kernel
theorem dX1_findCover_106 : decode cX1_findCover 106 = .ok (.if_icmp .ne 23, 3) := by decide +kernel
theorem dX1_findCover_109 : decode cX1_findCover 109 = .ok (.aload_n 0, 1) := by decide +kernel
theorem dX1_findCover_110 : decode cX1_findCover 110 = .ok (.getfield 28, 3) := by decide +kernel
theorem dX1_findCover_113 : decode cX1_findCover 113 = .ok (.iload_n 3, 1) := by decide +kernel
theorem dX1_findCover_114 : decode cX1_findCover 114 = .ok (.iaload, 1) := by decide +kernel
theorem dX1_findCover_115 : decode cX1_findCover 115 = .ok (.iload_n 2, 1) := by decide +kernel
theorem dX1_findCover_116 : decode cX1_findCover 116 = .ok (.if_icmp .ne 54, 3) := by decide +kernel
theorem dX1_findCover_119 : decode cX1_findCover 119 = .ok (.aload_n 0, 1) := by decide +kernel
theorem dX1_findCover_120 : decode cX1_findCover 120 = .ok (.iload_n 1, 1) := by decide +kernel
theorem dX1_findCover_121 : decode cX1_findCover 121 = .ok (.invokevirtual 116, 3) := by decide +kernel
theorem dX1_findCover_124 : decode cX1_findCover 124 = .ok (.ifCond .eq 46, 3) := by decide +kernel
theorem dX1_findCover_127 : decode cX1_findCover 127 = .ok (.iconst 1, 1) := by decide +kernel
theorem dX1_findCover_128 : decode cX1_findCover 128 = .ok (.ireturn, 1) := by decide +kernel
theorem dX1_findCover_129 : decode cX1_findCover 129 = .ok (.aload_n 0, 1) := by decide +kernel
theorem dX1_findCover_130 : decode cX1_findCover 130 = .ok (.getfield 28, 3) := by decide +kernel
theorem dX1_findCover_133 : decode cX1_findCover 133 = .ok (.iload_n 3, 1) := by decide +kernel
theorem dX1_findCover_134 : decode cX1_findCover 134 = .ok (.iaload, 1) := by decide +kernel
theorem dX1_findCover_135 : decode cX1_findCover 135 = .ok (.aload_n 0, 1) := by decide +kernel
theorem dX1_findCover_136 : decode cX1_findCover 136 = .ok (.getfield 19, 3) := by decide +kernel
theorem dX1_findCover_139 : decode cX1_findCover 139 = .ok (.aload_n 0, 1) := by decide +kernel
theorem dX1_findCover_140 : decode cX1_findCover 140 = .ok (.getfield 25, 3) := by decide +kernel
theorem dX1_findCover_143 : decode cX1_findCover 143 = .ok (.iload_n 3, 1) := by decide +kernel
theorem dX1_findCover_144 : decode cX1_findCover 144 = .ok (.iaload, 1) := by decide +kernel
theorem dX1_findCover_145 : decode cX1_findCover 145 = .ok (.iconst 1, 1) := by decide +kernel
theorem dX1_findCover_146 : decode cX1_findCover 146 = .ok (.iadd, 1) := by decide +kernel
theorem dX1_findCover_147 : decode cX1_findCover 147 = .ok (.iaload, 1) := by decide +kernel
theorem dX1_findCover_148 : decode cX1_findCover 148 = .ok (.ior, 1) := by decide +kernel
theorem dX1_findCover_149 : decode cX1_findCover 149 = .ok (.iload_n 2, 1) := by decide +kernel
theorem dX1_findCover_150 : decode cX1_findCover 150 = .ok (.if_icmp .ne 20, 3) := by decide +kernel
theorem dX1_findCover_153 : decode cX1_findCover 153 = .ok (.iinc 3 1, 3) := by decide +kernel
theorem dX1_findCover_156 : decode cX1_findCover 156 = .ok (.aload_n 0, 1) := by decide +kernel
theorem dX1_findCover_157 : decode cX1_findCover 157 = .ok (.getfield 25, 3) := by decide +kernel
theorem dX1_findCover_160 : decode cX1_findCover 160 = .ok (.iload_n 3, 1) := by decide +kernel
theorem dX1_findCover_161 : decode cX1_findCover 161 = .ok (.aload_n 0, 1) := by decide +kernel
theorem dX1_findCover_162 : decode cX1_findCover 162 = .ok (.getfield 25, 3) := by decide +kernel
theorem dX1_findCover_165 : decode cX1_findCover 165 = .ok (.iload_n 3, 1) := by decide +kernel
theorem dX1_findCover_166 : decode cX1_findCover 166 = .ok (.iconst 1, 1) := by decide +kernel
theorem dX1_findCover_167 : decode cX1_findCover 167 = .ok (.isub, 1) := by decide +kernel
theorem dX1_findCover_168 : decode cX1_findCover 168 = .ok (.iaload, 1) := by decide +kernel
theorem dX1_findCover_169 : decode cX1_findCover 169 = .ok (.iastore, 1) := by decide +kernel
theorem dX1_findCover_170 : decode cX1_findCover 170 = .ok (.iinc 4 1, 3) := by decide +kernel
theorem dX1_findCover_173 : decode cX1_findCover 173 = .ok (.goto (-152), 3) := by decide +kernel
theorem dX1_findCover_176 : decode cX1_findCover 176 = .ok (.iconst 0, 1) := by decide +kernel
theorem dX1_findCover_177 : decode cX1_findCover 177 = .ok (.ireturn, 1) := by decide +kernel
abbrev cX1_isClosed : ByteArray := prog_1_method_32_code
def yX1_isClosed : MethodName := ⟨RX1, "isClosed", "(I)Z"⟩
theorem dX1_isClosed_0 : decode cX1_isClosed 0 = .ok (.aload_n 0, 1) := by decide +kernel
theorem dX1_isClosed_1 : decode cX1_isClosed 1 = .ok (.iload_n 1, 1) := by decide +kernel
theorem dX1_isClosed_2 : decode cX1_isClosed 2 = .ok (.putfield 81, 3) := by decide +kernel
theorem dX1_isClosed_5 : decode cX1_isClosed 5 = .ok (.iconst 0, 1) := by decide +kernel
theorem dX1_isClosed_6 : decode cX1_isClosed 6 = .ok (.istore_n 2, 1) := by decide +kernel
theorem dX1_isClosed_7 : decode cX1_isClosed 7 = .ok (.iload_n 2, 1) := by decide +kernel
theorem dX1_isClosed_8 : decode cX1_isClosed 8 = .ok (.iload_n 1, 1) := by decide +kernel
theorem dX1_isClosed_9 : decode cX1_isClosed 9 = .ok (.if_icmp .ge 26, 3) := by decide +kernel
theorem dX1_isClosed_12 : decode cX1_isClosed 12 = .ok (.aload_n 0, 1) := by decide +kernel
theorem dX1_isClosed_13 : decode cX1_isClosed 13 = .ok (.getfield 31, 3) := by decide +kernel
theorem dX1_isClosed_16 : decode cX1_isClosed 16 = .ok (.iload_n 2, 1) := by decide +kernel
theorem dX1_isClosed_17 : decode cX1_isClosed 17 = .ok (.aload_n 0, 1) := by decide +kernel
theorem dX1_isClosed_18 : decode cX1_isClosed 18 = .ok (.getfield 16, 3) := by decide +kernel
theorem dX1_isClosed_21 : decode cX1_isClosed 21 = .ok (.aload_n 0, 1) := by decide +kernel
theorem dX1_isClosed_22 : decode cX1_isClosed 22 = .ok (.getfield 25, 3) := by decide +kernel
theorem dX1_isClosed_25 : decode cX1_isClosed 25 = .ok (.iload_n 2, 1) := by decide +kernel
theorem dX1_isClosed_26 : decode cX1_isClosed 26 = .ok (.iaload, 1) := by decide +kernel
theorem dX1_isClosed_27 : decode cX1_isClosed 27 = .ok (.iaload, 1) := by decide +kernel
theorem dX1_isClosed_28 : decode cX1_isClosed 28 = .ok (.iastore, 1) := by decide +kernel
theorem dX1_isClosed_29 : decode cX1_isClosed 29 = .ok (.iinc 2 1, 3) := by decide +kernel
theorem dX1_isClosed_32 : decode cX1_isClosed 32 = .ok (.goto (-25), 3) := by decide +kernel
theorem dX1_isClosed_35 : decode cX1_isClosed 35 = .ok (.iconst 0, 1) := by decide +kernel
theorem dX1_isClosed_36 : decode cX1_isClosed 36 = .ok (.istore_n 2, 1) := by decide +kernel
theorem dX1_isClosed_37 : decode cX1_isClosed 37 = .ok (.iload_n 2, 1) := by decide +kernel
theorem dX1_isClosed_38 : decode cX1_isClosed 38 = .ok (.iconst 2, 1) := by decide +kernel
theorem dX1_isClosed_39 : decode cX1_isClosed 39 = .ok (.iload_n 1, 1) := by decide +kernel
theorem dX1_isClosed_40 : decode cX1_isClosed 40 = .ok (.imul, 1) := by decide +kernel
theorem dX1_isClosed_41 : decode cX1_isClosed 41 = .ok (.if_icmp .ge 36, 3) := by decide +kernel
theorem dX1_isClosed_44 : decode cX1_isClosed 44 = .ok (.aload_n 0, 1) := by decide +kernel
theorem dX1_isClosed_45 : decode cX1_isClosed 45 = .ok (.aload_n 0, 1) := by decide +kernel
theorem dX1_isClosed_46 : decode cX1_isClosed 46 = .ok (.getfield 31, 3) := by decide +kernel
theorem dX1_isClosed_49 : decode cX1_isClosed 49 = .ok (.iload_n 2, 1) := by decide +kernel
theorem dX1_isClosed_50 : decode cX1_isClosed 50 = .ok (.iconst 1, 1) := by decide +kernel
theorem dX1_isClosed_51 : decode cX1_isClosed 51 = .ok (.ishr, 1) := by decide +kernel
theorem dX1_isClosed_52 : decode cX1_isClosed 52 = .ok (.iaload, 1) := by decide +kernel
theorem dX1_isClosed_53 : decode cX1_isClosed 53 = .ok (.iload_n 2, 1) := by decide +kernel
theorem dX1_isClosed_54 : decode cX1_isClosed 54 = .ok (.iconst 1, 1) := by decide +kernel
theorem dX1_isClosed_55 : decode cX1_isClosed 55 = .ok (.iand, 1) := by decide +kernel
theorem dX1_isClosed_56 : decode cX1_isClosed 56 = .ok (.invokevirtual 78, 3) := by decide +kernel
theorem dX1_isClosed_59 : decode cX1_isClosed 59 = .ok (.istore_n 3, 1) := by decide +kernel
theorem dX1_isClosed_60 : decode cX1_isClosed 60 = .ok (.aload_n 0, 1) := by decide +kernel
theorem dX1_isClosed_61 : decode cX1_isClosed 61 = .ok (.iload_n 3, 1) := by decide +kernel
theorem dX1_isClosed_62 : decode cX1_isClosed 62 = .ok (.invokevirtual 87, 3) := by decide +kernel
theorem dX1_isClosed_65 : decode cX1_isClosed 65 = .ok (.iconst (-1), 1) := by decide +kernel
theorem dX1_isClosed_66 : decode cX1_isClosed 66 = .ok (.if_icmp .ne 5, 3) := by decide +kernel
theorem dX1_isClosed_69 : decode cX1_isClosed 69 = .ok (.iconst 0, 1) := by decide +kernel
theorem dX1_isClosed_70 : decode cX1_isClosed 70 = .ok (.ireturn, 1) := by decide +kernel
theorem dX1_isClosed_71 : decode cX1_isClosed 71 = .ok (.iinc 2 1, 3) := by decide +kernel
theorem dX1_isClosed_74 : decode cX1_isClosed 74 = .ok (.goto (-37), 3) := by decide +kernel
theorem dX1_isClosed_77 : decode cX1_isClosed 77 = .ok (.iconst 1, 1) := by decide +kernel
theorem dX1_isClosed_78 : decode cX1_isClosed 78 = .ok (.ireturn, 1) := by decide +kernel
abbrev cX1_image : ByteArray := prog_1_method_30_code
def yX1_image : MethodName := ⟨RX1, "image", "(II)I"⟩
theorem dX1_image_0 : decode cX1_image 0 = .ok (.iconst 0, 1) := by decide +kernel
theorem dX1_image_1 : decode cX1_image 1 = .ok (.istore_n 3, 1) := by decide +kernel
theorem dX1_image_2 : decode cX1_image 2 = .ok (.iconst 0, 1) := by decide +kernel
theorem dX1_image_3 : decode cX1_image 3 = .ok (.istore 4, 2) := by decide +kernel
theorem dX1_image_5 : decode cX1_image 5 = .ok (.iload 4, 2) := by decide +kernel
theorem dX1_image_7 : decode cX1_image 7 = .ok (.aload_n 0, 1) := by decide +kernel
theorem dX1_image_8 : decode cX1_image 8 = .ok (.getfield 40, 3) := by decide +kernel
theorem dX1_image_11 : decode cX1_image 11 = .ok (.if_icmp .ge 41, 3) := by decide +kernel
theorem dX1_image_14 : decode cX1_image 14 = .ok (.aload_n 0, 1) := by decide +kernel
theorem dX1_image_15 : decode cX1_image 15 = .ok (.iload 4, 2) := by decide +kernel
theorem dX1_image_17 : decode cX1_image 17 = .ok (.iload_n 2, 1) := by decide +kernel
theorem dX1_image_18 : decode cX1_image 18 = .ok (.invokevirtual 65, 3) := by decide +kernel
theorem dX1_image_21 : decode cX1_image 21 = .ok (.istore 5, 2) := by decide +kernel
theorem dX1_image_23 : decode cX1_image 23 = .ok (.iload_n 1, 1) := by decide +kernel
theorem dX1_image_24 : decode cX1_image 24 = .ok (.iload 4, 2) := by decide +kernel
theorem dX1_image_26 : decode cX1_image 26 = .ok (.ishr, 1) := by decide +kernel
theorem dX1_image_27 : decode cX1_image 27 = .ok (.iconst 1, 1) := by decide +kernel
theorem dX1_image_28 : decode cX1_image 28 = .ok (.iand, 1) := by decide +kernel
theorem dX1_image_29 : decode cX1_image 29 = .ok (.iconst 1, 1) := by decide +kernel
theorem dX1_image_30 : decode cX1_image 30 = .ok (.if_icmp .ne 16, 3) := by decide +kernel
theorem dX1_image_33 : decode cX1_image 33 = .ok (.iload 5, 2) := by decide +kernel
theorem dX1_image_35 : decode cX1_image 35 = .ok (.iconst (-1), 1) := by decide +kernel
theorem dX1_image_36 : decode cX1_image 36 = .ok (.if_icmp .eq 10, 3) := by decide +kernel
theorem dX1_image_39 : decode cX1_image 39 = .ok (.iload_n 3, 1) := by decide +kernel
theorem dX1_image_40 : decode cX1_image 40 = .ok (.iconst 1, 1) := by decide +kernel
theorem dX1_image_41 : decode cX1_image 41 = .ok (.iload 5, 2) := by decide +kernel
theorem dX1_image_43 : decode cX1_image 43 = .ok (.ishl, 1) := by decide +kernel
theorem dX1_image_44 : decode cX1_image 44 = .ok (.ior, 1) := by decide +kernel
theorem dX1_image_45 : decode cX1_image 45 = .ok (.istore_n 3, 1) := by decide +kernel
theorem dX1_image_46 : decode cX1_image 46 = .ok (.iinc 4 1, 3) := by decide +kernel
theorem dX1_image_49 : decode cX1_image 49 = .ok (.goto (-44), 3) := by decide +kernel
theorem dX1_image_52 : decode cX1_image 52 = .ok (.iload_n 3, 1) := by decide +kernel
theorem dX1_image_53 : decode cX1_image 53 = .ok (.ireturn, 1) := by decide +kernel
abbrev cX1_firstWith : ByteArray := prog_1_method_33_code
def yX1_firstWith : MethodName := ⟨RX1, "firstWith", "(I)I"⟩
theorem dX1_firstWith_0 : decode cX1_firstWith 0 = .ok (.iconst 0, 1) := by decide +kernel
theorem dX1_firstWith_1 : decode cX1_firstWith 1 = .ok (.istore_n 2, 1) := by decide +kernel
theorem dX1_firstWith_2 : decode cX1_firstWith 2 = .ok (.iload_n 2, 1) := by decide +kernel
theorem dX1_firstWith_3 : decode cX1_firstWith 3 = .ok (.aload_n 0, 1) := by decide +kernel
theorem dX1_firstWith_4 : decode cX1_firstWith 4 = .ok (.getfield 81, 3) := by decide +kernel
theorem dX1_firstWith_7 : decode cX1_firstWith 7 = .ok (.if_icmp .ge 24, 3) := by decide +kernel
theorem dX1_firstWith_10 : decode cX1_firstWith 10 = .ok (.iload_n 1, 1) := by decide +kernel
theorem dX1_firstWith_11 : decode cX1_firstWith 11 = .ok (.aload_n 0, 1) := by decide +kernel
theorem dX1_firstWith_12 : decode cX1_firstWith 12 = .ok (.getfield 31, 3) := by decide +kernel
theorem dX1_firstWith_15 : decode cX1_firstWith 15 = .ok (.iload_n 2, 1) := by decide +kernel
theorem dX1_firstWith_16 : decode cX1_firstWith 16 = .ok (.iaload, 1) := by decide +kernel
theorem dX1_firstWith_17 : decode cX1_firstWith 17 = .ok (.iconst (-1), 1) := by decide +kernel
theorem dX1_firstWith_18 : decode cX1_firstWith 18 = .ok (.ixor, 1) := by decide +kernel
theorem dX1_firstWith_19 : decode cX1_firstWith 19 = .ok (.iand, 1) := by decide +kernel
theorem dX1_firstWith_20 : decode cX1_firstWith 20 = .ok (.ifCond .ne 5, 3) := by decide +kernel
theorem dX1_firstWith_23 : decode cX1_firstWith 23 = .ok (.iload_n 2, 1) := by decide +kernel
theorem dX1_firstWith_24 : decode cX1_firstWith 24 = .ok (.ireturn, 1) := by decide +kernel
theorem dX1_firstWith_25 : decode cX1_firstWith 25 = .ok (.iinc 2 1, 3) := by decide +kernel
theorem dX1_firstWith_28 : decode cX1_firstWith 28 = .ok (.goto (-26), 3) := by decide +kernel
theorem dX1_firstWith_31 : decode cX1_firstWith 31 = .ok (.iconst (-1), 1) := by decide +kernel
theorem dX1_firstWith_32 : decode cX1_firstWith 32 = .ok (.ireturn, 1) := by decide +kernel
abbrev cX1_buildClasses : ByteArray := prog_1_method_34_code
def yX1_buildClasses : MethodName := ⟨RX1, "buildClasses", "()V"⟩
theorem dX1_buildClasses_0 : decode cX1_buildClasses 0 = .ok (.iconst 0, 1) := by decide +kernel
theorem dX1_buildClasses_1 : decode cX1_buildClasses 1 = .ok (.istore_n 1, 1) := by decide +kernel
theorem dX1_buildClasses_2 : decode cX1_buildClasses 2 = .ok (.iload_n 1, 1) := by decide +kernel
theorem dX1_buildClasses_3 : decode cX1_buildClasses 3 = .ok (.iconst 2, 1) := by decide +kernel
theorem dX1_buildClasses_4 : decode cX1_buildClasses 4 = .ok (.aload_n 0, 1) := by decide +kernel
theorem dX1_buildClasses_5 : decode cX1_buildClasses 5 = .ok (.getfield 81, 3) := by decide +kernel
theorem dX1_buildClasses_8 : decode cX1_buildClasses 8 = .ok (.imul, 1) := by decide +kernel
theorem dX1_buildClasses_9 : decode cX1_buildClasses 9 = .ok (.if_icmp .ge 57, 3) := by decide +kernel
theorem dX1_buildClasses_12 : decode cX1_buildClasses 12 = .ok (.aload_n 0, 1) := by decide +kernel
theorem dX1_buildClasses_13 : decode cX1_buildClasses 13 = .ok (.aload_n 0, 1) := by decide +kernel
theorem dX1_buildClasses_14 : decode cX1_buildClasses 14 = .ok (.getfield 31, 3) := by decide +kernel
theorem dX1_buildClasses_17 : decode cX1_buildClasses 17 = .ok (.iload_n 1, 1) := by decide +kernel
theorem dX1_buildClasses_18 : decode cX1_buildClasses 18 = .ok (.iconst 1, 1) := by decide +kernel
theorem dX1_buildClasses_19 : decode cX1_buildClasses 19 = .ok (.ishr, 1) := by decide +kernel
theorem dX1_buildClasses_20 : decode cX1_buildClasses 20 = .ok (.iaload, 1) := by decide +kernel
theorem dX1_buildClasses_21 : decode cX1_buildClasses 21 = .ok (.iload_n 1, 1) := by decide +kernel
theorem dX1_buildClasses_22 : decode cX1_buildClasses 22 = .ok (.iconst 1, 1) := by decide +kernel
theorem dX1_buildClasses_23 : decode cX1_buildClasses 23 = .ok (.iand, 1) := by decide +kernel
theorem dX1_buildClasses_24 : decode cX1_buildClasses 24 = .ok (.invokevirtual 78, 3) := by decide +kernel
theorem dX1_buildClasses_27 : decode cX1_buildClasses 27 = .ok (.istore_n 2, 1) := by decide +kernel
theorem dX1_buildClasses_28 : decode cX1_buildClasses 28 = .ok (.aload_n 0, 1) := by decide +kernel
theorem dX1_buildClasses_29 : decode cX1_buildClasses 29 = .ok (.getfield 34, 3) := by decide +kernel
theorem dX1_buildClasses_32 : decode cX1_buildClasses 32 = .ok (.iload_n 1, 1) := by decide +kernel
theorem dX1_buildClasses_33 : decode cX1_buildClasses 33 = .ok (.aload_n 0, 1) := by decide +kernel
theorem dX1_buildClasses_34 : decode cX1_buildClasses 34 = .ok (.iload_n 2, 1) := by decide +kernel
theorem dX1_buildClasses_35 : decode cX1_buildClasses 35 = .ok (.invokevirtual 87, 3) := by decide +kernel
theorem dX1_buildClasses_38 : decode cX1_buildClasses 38 = .ok (.iastore, 1) := by decide +kernel
theorem dX1_buildClasses_39 : decode cX1_buildClasses 39 = .ok (.aload_n 0, 1) := by decide +kernel
theorem dX1_buildClasses_40 : decode cX1_buildClasses 40 = .ok (.getfield 37, 3) := by decide +kernel
theorem dX1_buildClasses_43 : decode cX1_buildClasses 43 = .ok (.iload_n 1, 1) := by decide +kernel
theorem dX1_buildClasses_44 : decode cX1_buildClasses 44 = .ok (.aload_n 0, 1) := by decide +kernel
theorem dX1_buildClasses_45 : decode cX1_buildClasses 45 = .ok (.aload_n 0, 1) := by decide +kernel
theorem dX1_buildClasses_46 : decode cX1_buildClasses 46 = .ok (.getfield 31, 3) := by decide +kernel
theorem dX1_buildClasses_49 : decode cX1_buildClasses 49 = .ok (.iload_n 1, 1) := by decide +kernel
theorem dX1_buildClasses_50 : decode cX1_buildClasses 50 = .ok (.iconst 1, 1) := by decide +kernel
theorem dX1_buildClasses_51 : decode cX1_buildClasses 51 = .ok (.ishr, 1) := by decide +kernel
theorem dX1_buildClasses_52 : decode cX1_buildClasses 52 = .ok (.iaload, 1) := by decide +kernel
theorem dX1_buildClasses_53 : decode cX1_buildClasses 53 = .ok (.iload_n 1, 1) := by decide +kernel
theorem dX1_buildClasses_54 : decode cX1_buildClasses 54 = .ok (.iconst 1, 1) := by decide +kernel
theorem dX1_buildClasses_55 : decode cX1_buildClasses 55 = .ok (.iand, 1) := by decide +kernel
theorem dX1_buildClasses_56 : decode cX1_buildClasses 56 = .ok (.invokevirtual 119, 3) := by decide +kernel
theorem dX1_buildClasses_59 : decode cX1_buildClasses 59 = .ok (.iastore, 1) := by decide +kernel
theorem dX1_buildClasses_60 : decode cX1_buildClasses 60 = .ok (.iinc 1 1, 3) := by decide +kernel
theorem dX1_buildClasses_63 : decode cX1_buildClasses 63 = .ok (.goto (-61), 3) := by decide +kernel
theorem dX1_buildClasses_66 : decode cX1_buildClasses 66 = .ok (.return_, 1) := by decide +kernel
abbrev cX1_sharedOutput : ByteArray := prog_1_method_35_code
def yX1_sharedOutput : MethodName := ⟨RX1, "sharedOutput", "(II)I"⟩
theorem dX1_sharedOutput_0 : decode cX1_sharedOutput 0 = .ok (.iconst 0, 1) := by decide +kernel
theorem dX1_sharedOutput_1 : decode cX1_sharedOutput 1 = .ok (.istore_n 3, 1) := by decide +kernel
theorem dX1_sharedOutput_2 : decode cX1_sharedOutput 2 = .ok (.iload_n 3, 1) := by decide +kernel
theorem dX1_sharedOutput_3 : decode cX1_sharedOutput 3 = .ok (.aload_n 0, 1) := by decide +kernel
theorem dX1_sharedOutput_4 : decode cX1_sharedOutput 4 = .ok (.getfield 40, 3) := by decide +kernel
theorem dX1_sharedOutput_7 : decode cX1_sharedOutput 7 = .ok (.if_icmp .ge 35, 3) := by decide +kernel
theorem dX1_sharedOutput_10 : decode cX1_sharedOutput 10 = .ok (.iload_n 1, 1) := by decide +kernel
theorem dX1_sharedOutput_11 : decode cX1_sharedOutput 11 = .ok (.iload_n 3, 1) := by decide +kernel
theorem dX1_sharedOutput_12 : decode cX1_sharedOutput 12 = .ok (.ishr, 1) := by decide +kernel
theorem dX1_sharedOutput_13 : decode cX1_sharedOutput 13 = .ok (.iconst 1, 1) := by decide +kernel
theorem dX1_sharedOutput_14 : decode cX1_sharedOutput 14 = .ok (.iand, 1) := by decide +kernel
theorem dX1_sharedOutput_15 : decode cX1_sharedOutput 15 = .ok (.iconst 1, 1) := by decide +kernel
theorem dX1_sharedOutput_16 : decode cX1_sharedOutput 16 = .ok (.if_icmp .ne 20, 3) := by decide +kernel
theorem dX1_sharedOutput_19 : decode cX1_sharedOutput 19 = .ok (.aload_n 0, 1) := by decide +kernel
theorem dX1_sharedOutput_20 : decode cX1_sharedOutput 20 = .ok (.iload_n 3, 1) := by decide +kernel
theorem dX1_sharedOutput_21 : decode cX1_sharedOutput 21 = .ok (.iload_n 2, 1) := by decide +kernel
theorem dX1_sharedOutput_22 : decode cX1_sharedOutput 22 = .ok (.invokevirtual 94, 3) := by decide +kernel
theorem dX1_sharedOutput_25 : decode cX1_sharedOutput 25 = .ok (.istore 4, 2) := by decide +kernel
theorem dX1_sharedOutput_27 : decode cX1_sharedOutput 27 = .ok (.iload 4, 2) := by decide +kernel
theorem dX1_sharedOutput_29 : decode cX1_sharedOutput 29 = .ok (.iconst (-1), 1) := by decide +kernel
theorem dX1_sharedOutput_30 : decode cX1_sharedOutput 30 = .ok (.if_icmp .eq 6, 3) := by decide +kernel
theorem dX1_sharedOutput_33 : decode cX1_sharedOutput 33 = .ok (.iload 4, 2) := by decide +kernel
theorem dX1_sharedOutput_35 : decode cX1_sharedOutput 35 = .ok (.ireturn, 1) := by decide +kernel
theorem dX1_sharedOutput_36 : decode cX1_sharedOutput 36 = .ok (.iinc 3 1, 3) := by decide +kernel
theorem dX1_sharedOutput_39 : decode cX1_sharedOutput 39 = .ok (.goto (-37), 3) := by decide +kernel
theorem dX1_sharedOutput_42 : decode cX1_sharedOutput 42 = .ok (.iconst (-1), 1) := by decide +kernel
theorem dX1_sharedOutput_43 : decode cX1_sharedOutput 43 = .ok (.ireturn, 1) := by decide +kernel
abbrev cX1_splitLength : ByteArray := prog_1_method_6_code
def yX1_splitLength : MethodName := ⟨RX1, "splitLength", "(II)I"⟩
theorem dX1_splitLength_0 : decode cX1_splitLength 0 = .ok (.aload_n 0, 1) := by decide +kernel
theorem dX1_splitLength_1 : decode cX1_splitLength 1 = .ok (.iload_n 1, 1) := by decide +kernel
theorem dX1_splitLength_2 : decode cX1_splitLength 2 = .ok (.invokevirtual 44, 3) := by decide +kernel
theorem dX1_splitLength_5 : decode cX1_splitLength 5 = .ok (.ifCond .eq 11, 3) := by decide +kernel
theorem dX1_splitLength_8 : decode cX1_splitLength 8 = .ok (.aload_n 0, 1) := by decide +kernel
theorem dX1_splitLength_9 : decode cX1_splitLength 9 = .ok (.iload_n 2, 1) := by decide +kernel
theorem dX1_splitLength_10 : decode cX1_splitLength 10 = .ok (.invokevirtual 44, 3) := by decide +kernel
theorem dX1_splitLength_13 : decode cX1_splitLength 13 = .ok (.ifCond .ne 5, 3) := by decide +kernel
theorem dX1_splitLength_16 : decode cX1_splitLength 16 = .ok (.iconst (-1), 1) := by decide +kernel
theorem dX1_splitLength_17 : decode cX1_splitLength 17 = .ok (.ireturn, 1) := by decide +kernel
theorem dX1_splitLength_18 : decode cX1_splitLength 18 = .ok (.aload_n 0, 1) := by decide +kernel
theorem dX1_splitLength_19 : decode cX1_splitLength 19 = .ok (.invokevirtual 58, 3) := by decide +kernel
theorem dX1_splitLength_22 : decode cX1_splitLength 22 = .ok (.aload_n 0, 1) := by decide +kernel
theorem dX1_splitLength_23 : decode cX1_splitLength 23 = .ok (.getfield 13, 3) := by decide +kernel
theorem dX1_splitLength_26 : decode cX1_splitLength 26 = .ok (.iconst 5, 1) := by decide +kernel
theorem dX1_splitLength_27 : decode cX1_splitLength 27 = .ok (.iload_n 1, 1) := by decide +kernel
theorem dX1_splitLength_28 : decode cX1_splitLength 28 = .ok (.imul, 1) := by decide +kernel
theorem dX1_splitLength_29 : decode cX1_splitLength 29 = .ok (.iload_n 2, 1) := by decide +kernel
theorem dX1_splitLength_30 : decode cX1_splitLength 30 = .ok (.iadd, 1) := by decide +kernel
theorem dX1_splitLength_31 : decode cX1_splitLength 31 = .ok (.iaload, 1) := by decide +kernel
theorem dX1_splitLength_32 : decode cX1_splitLength 32 = .ok (.istore_n 3, 1) := by decide +kernel
theorem dX1_splitLength_33 : decode cX1_splitLength 33 = .ok (.iload_n 3, 1) := by decide +kernel
theorem dX1_splitLength_34 : decode cX1_splitLength 34 = .ok (.sipush 1000, 3) := by decide +kernel
theorem dX1_splitLength_37 : decode cX1_splitLength 37 = .ok (.if_icmp .ne 8, 3) := by decide +kernel
theorem dX1_splitLength_40 : decode cX1_splitLength 40 = .ok (.bipush (-2), 2) := by decide +kernel
theorem dX1_splitLength_42 : decode cX1_splitLength 42 = .ok (.goto 4, 3) := by decide +kernel
theorem dX1_splitLength_45 : decode cX1_splitLength 45 = .ok (.iload_n 3, 1) := by decide +kernel
theorem dX1_splitLength_46 : decode cX1_splitLength 46 = .ok (.ireturn, 1) := by decide +kernel
end
section
set_option maxRecDepth 100000
abbrev cX1_splitWord : ByteArray := prog_1_method_7_code
def yX1_splitWord : MethodName := ⟨RX1, "splitWord", "(II)I"⟩
theorem dX1_splitWord_0 : decode cX1_splitWord 0 = .ok (.aload_n 0, 1) := by decide +kernel
theorem dX1_splitWord_1 : decode cX1_splitWord 1 = .ok (.iload_n 1, 1) := by decide +kernel
theorem dX1_splitWord_2 : decode cX1_splitWord 2 = .ok (.invokevirtual 44, 3) := by decide +kernel
theorem dX1_splitWord_5 : decode cX1_splitWord 5 = .ok (.ifCond .eq 11, 3) := by decide +kernel
theorem dX1_splitWord_8 : decode cX1_splitWord 8 = .ok (.aload_n 0, 1) := by decide +kernel
theorem dX1_splitWord_9 : decode cX1_splitWord 9 = .ok (.iload_n 2, 1) := by decide +kernel
theorem dX1_splitWord_10 : decode cX1_splitWord 10 = .ok (.invokevirtual 44, 3) := by decide +kernel
theorem dX1_splitWord_13 : decode cX1_splitWord 13 = .ok (.ifCond .ne 5, 3) := by decide +kernel
theorem dX1_splitWord_16 : decode cX1_splitWord 16 = .ok (.iconst (-1), 1) := by decide +kernel
theorem dX1_splitWord_17 : decode cX1_splitWord 17 = .ok (.ireturn, 1) := by decide +kernel
theorem dX1_splitWord_18 : decode cX1_splitWord 18 = .ok (.aload_n 0, 1) := by decide +kernel
theorem dX1_splitWord_19 : decode cX1_splitWord 19 = .ok (.invokevirtual 58, 3) := by decide +kernel
theorem dX1_splitWord_22 : decode cX1_splitWord 22 = .ok (.aload_n 0, 1) := by decide +kernel
theorem dX1_splitWord_23 : decode cX1_splitWord 23 = .ok (.getfield 13, 3) := by decide +kernel
theorem dX1_splitWord_26 : decode cX1_splitWord 26 = .ok (.iconst 5, 1) := by decide +kernel
theorem dX1_splitWord_27 : decode cX1_splitWord 27 = .ok (.iload_n 1, 1) := by decide +kernel
theorem dX1_splitWord_28 : decode cX1_splitWord 28 = .ok (.imul, 1) := by decide +kernel
theorem dX1_splitWord_29 : decode cX1_splitWord 29 = .ok (.iload_n 2, 1) := by decide +kernel
theorem dX1_splitWord_30 : decode cX1_splitWord 30 = .ok (.iadd, 1) := by decide +kernel
theorem dX1_splitWord_31 : decode cX1_splitWord 31 = .ok (.iaload, 1) := by decide +kernel
theorem dX1_splitWord_32 : decode cX1_splitWord 32 = .ok (.sipush 1000, 3) := by decide +kernel
theorem dX1_splitWord_35 : decode cX1_splitWord 35 = .ok (.if_icmp .ne 6, 3) := by decide +kernel
theorem dX1_splitWord_38 : decode cX1_splitWord 38 = .ok (.bipush (-2), 2) := by decide +kernel
theorem dX1_splitWord_40 : decode cX1_splitWord 40 = .ok (.ireturn, 1) := by decide +kernel
theorem dX1_splitWord_41 : decode cX1_splitWord 41 = .ok (.iconst 0, 1) := by decide +kernel
theorem dX1_splitWord_42 : decode cX1_splitWord 42 = .ok (.istore_n 3, 1) := by decide +kernel
theorem dX1_splitWord_43 : decode cX1_splitWord 43 = .ok (.iload_n 1, 1) := by decide +kernel
theorem dX1_splitWord_44 : decode cX1_splitWord 44 = .ok (.istore 4, 2) := by decide +kernel
theorem dX1_splitWord_46 : decode cX1_splitWord 46 = .ok (.iload_n 2, 1) := by decide +kernel
theorem dX1_splitWord_47 : decode cX1_splitWord 47 = .ok (.istore 5, 2) := by decide +kernel
theorem dX1_splitWord_49 : decode cX1_splitWord 49 = .ok (.aload_n 0, 1) := by decide +kernel
theorem dX1_splitWord_50 : decode cX1_splitWord 50 = .ok (.getfield 13, 3) := by decide +kernel
theorem dX1_splitWord_53 : decode cX1_splitWord 53 = .ok (.iconst 5, 1) := by decide +kernel
theorem dX1_splitWord_54 : decode cX1_splitWord 54 = .ok (.iload_n 1, 1) := by decide +kernel
theorem dX1_splitWord_55 : decode cX1_splitWord 55 = .ok (.imul, 1) := by decide +kernel
theorem dX1_splitWord_56 : decode cX1_splitWord 56 = .ok (.iload_n 2, 1) := by decide +kernel
theorem dX1_splitWord_57 : decode cX1_splitWord 57 = .ok (.iadd, 1) := by decide +kernel
theorem dX1_splitWord_58 : decode cX1_splitWord 58 = .ok (.iaload, 1) := by decide +kernel
theorem dX1_splitWord_59 : decode cX1_splitWord 59 = .ok (.istore 6, 2) := by decide +kernel
theorem dX1_splitWord_61 : decode cX1_splitWord 61 = .ok (.iload 6, 2) := by decide +kernel
theorem dX1_splitWord_63 : decode cX1_splitWord 63 = .ok (.ifCond .le 67, 3) := by decide +kernel
theorem dX1_splitWord_66 : decode cX1_splitWord 66 = .ok (.aload_n 0, 1) := by decide +kernel
theorem dX1_splitWord_67 : decode cX1_splitWord 67 = .ok (.iload 4, 2) := by decide +kernel
theorem dX1_splitWord_69 : decode cX1_splitWord 69 = .ok (.iload 5, 2) := by decide +kernel
theorem dX1_splitWord_71 : decode cX1_splitWord 71 = .ok (.iconst 0, 1) := by decide +kernel
theorem dX1_splitWord_72 : decode cX1_splitWord 72 = .ok (.iload 6, 2) := by decide +kernel
theorem dX1_splitWord_74 : decode cX1_splitWord 74 = .ok (.invokevirtual 61, 3) := by decide +kernel
theorem dX1_splitWord_77 : decode cX1_splitWord 77 = .ok (.ifCond .eq 7, 3) := by decide +kernel
theorem dX1_splitWord_80 : decode cX1_splitWord 80 = .ok (.iconst 0, 1) := by decide +kernel
theorem dX1_splitWord_81 : decode cX1_splitWord 81 = .ok (.goto 4, 3) := by decide +kernel
theorem dX1_splitWord_84 : decode cX1_splitWord 84 = .ok (.iconst 1, 1) := by decide +kernel
theorem dX1_splitWord_85 : decode cX1_splitWord 85 = .ok (.istore 7, 2) := by decide +kernel
theorem dX1_splitWord_87 : decode cX1_splitWord 87 = .ok (.iconst 2, 1) := by decide +kernel
theorem dX1_splitWord_88 : decode cX1_splitWord 88 = .ok (.iload_n 3, 1) := by decide +kernel
theorem dX1_splitWord_89 : decode cX1_splitWord 89 = .ok (.imul, 1) := by decide +kernel
theorem dX1_splitWord_90 : decode cX1_splitWord 90 = .ok (.iload 7, 2) := by decide +kernel
theorem dX1_splitWord_92 : decode cX1_splitWord 92 = .ok (.iadd, 1) := by decide +kernel
theorem dX1_splitWord_93 : decode cX1_splitWord 93 = .ok (.istore_n 3, 1) := by decide +kernel
theorem dX1_splitWord_94 : decode cX1_splitWord 94 = .ok (.iload 6, 2) := by decide +kernel
theorem dX1_splitWord_96 : decode cX1_splitWord 96 = .ok (.iconst 1, 1) := by decide +kernel
theorem dX1_splitWord_97 : decode cX1_splitWord 97 = .ok (.if_icmp .le 27, 3) := by decide +kernel
theorem dX1_splitWord_100 : decode cX1_splitWord 100 = .ok (.aload_n 0, 1) := by decide +kernel
theorem dX1_splitWord_101 : decode cX1_splitWord 101 = .ok (.iload 4, 2) := by decide +kernel
theorem dX1_splitWord_103 : decode cX1_splitWord 103 = .ok (.iload 7, 2) := by decide +kernel
theorem dX1_splitWord_105 : decode cX1_splitWord 105 = .ok (.invokevirtual 65, 3) := by decide +kernel
theorem dX1_splitWord_108 : decode cX1_splitWord 108 = .ok (.istore 8, 2) := by decide +kernel
theorem dX1_splitWord_110 : decode cX1_splitWord 110 = .ok (.aload_n 0, 1) := by decide +kernel
theorem dX1_splitWord_111 : decode cX1_splitWord 111 = .ok (.iload 5, 2) := by decide +kernel
theorem dX1_splitWord_113 : decode cX1_splitWord 113 = .ok (.iload 7, 2) := by decide +kernel
theorem dX1_splitWord_115 : decode cX1_splitWord 115 = .ok (.invokevirtual 65, 3) := by decide +kernel
theorem dX1_splitWord_118 : decode cX1_splitWord 118 = .ok (.istore 5, 2) := by decide +kernel
theorem dX1_splitWord_120 : decode cX1_splitWord 120 = .ok (.iload 8, 2) := by decide +kernel
theorem dX1_splitWord_122 : decode cX1_splitWord 122 = .ok (.istore 4, 2) := by decide +kernel
theorem dX1_splitWord_124 : decode cX1_splitWord 124 = .ok (.iinc 6 (-1), 3) := by decide +kernel
theorem dX1_splitWord_127 : decode cX1_splitWord 127 = .ok (.goto (-66), 3) := by decide +kernel
theorem dX1_splitWord_130 : decode cX1_splitWord 130 = .ok (.iload_n 3, 1) := by decide +kernel
theorem dX1_splitWord_131 : decode cX1_splitWord 131 = .ok (.ireturn, 1) := by decide +kernel
abbrev cX1_compatibleSet : ByteArray := prog_1_method_8_code
def yX1_compatibleSet : MethodName := ⟨RX1, "compatibleSet", "(I)I"⟩
theorem dX1_compatibleSet_0 : decode cX1_compatibleSet 0 = .ok (.aload_n 0, 1) := by decide +kernel
theorem dX1_compatibleSet_1 : decode cX1_compatibleSet 1 = .ok (.iload_n 1, 1) := by decide +kernel
theorem dX1_compatibleSet_2 : decode cX1_compatibleSet 2 = .ok (.invokevirtual 69, 3) := by decide +kernel
theorem dX1_compatibleSet_5 : decode cX1_compatibleSet 5 = .ok (.ifCond .ne 5, 3) := by decide +kernel
theorem dX1_compatibleSet_8 : decode cX1_compatibleSet 8 = .ok (.iconst (-1), 1) := by decide +kernel
theorem dX1_compatibleSet_9 : decode cX1_compatibleSet 9 = .ok (.ireturn, 1) := by decide +kernel
theorem dX1_compatibleSet_10 : decode cX1_compatibleSet 10 = .ok (.aload_n 0, 1) := by decide +kernel
theorem dX1_compatibleSet_11 : decode cX1_compatibleSet 11 = .ok (.invokevirtual 58, 3) := by decide +kernel
theorem dX1_compatibleSet_14 : decode cX1_compatibleSet 14 = .ok (.aload_n 0, 1) := by decide +kernel
theorem dX1_compatibleSet_15 : decode cX1_compatibleSet 15 = .ok (.iload_n 1, 1) := by decide +kernel
theorem dX1_compatibleSet_16 : decode cX1_compatibleSet 16 = .ok (.invokevirtual 72, 3) := by decide +kernel
theorem dX1_compatibleSet_19 : decode cX1_compatibleSet 19 = .ok (.ifCond .eq 7, 3) := by decide +kernel
theorem dX1_compatibleSet_22 : decode cX1_compatibleSet 22 = .ok (.iconst 1, 1) := by decide +kernel
theorem dX1_compatibleSet_23 : decode cX1_compatibleSet 23 = .ok (.goto 4, 3) := by decide +kernel
theorem dX1_compatibleSet_26 : decode cX1_compatibleSet 26 = .ok (.iconst 0, 1) := by decide +kernel
theorem dX1_compatibleSet_27 : decode cX1_compatibleSet 27 = .ok (.ireturn, 1) := by decide +kernel
abbrev cX1_isSet : ByteArray := prog_1_method_20_code
def yX1_isSet : MethodName := ⟨RX1, "isSet", "(I)Z"⟩
theorem dX1_isSet_0 : decode cX1_isSet 0 = .ok (.iload_n 1, 1) := by decide +kernel
theorem dX1_isSet_1 : decode cX1_isSet 1 = .ok (.iconst 1, 1) := by decide +kernel
theorem dX1_isSet_2 : decode cX1_isSet 2 = .ok (.if_icmp .lt 17, 3) := by decide +kernel
theorem dX1_isSet_5 : decode cX1_isSet 5 = .ok (.iload_n 1, 1) := by decide +kernel
theorem dX1_isSet_6 : decode cX1_isSet 6 = .ok (.iconst 1, 1) := by decide +kernel
theorem dX1_isSet_7 : decode cX1_isSet 7 = .ok (.aload_n 0, 1) := by decide +kernel
theorem dX1_isSet_8 : decode cX1_isSet 8 = .ok (.getfield 40, 3) := by decide +kernel
theorem dX1_isSet_11 : decode cX1_isSet 11 = .ok (.ishl, 1) := by decide +kernel
theorem dX1_isSet_12 : decode cX1_isSet 12 = .ok (.if_icmp .ge 7, 3) := by decide +kernel
theorem dX1_isSet_15 : decode cX1_isSet 15 = .ok (.iconst 1, 1) := by decide +kernel
theorem dX1_isSet_16 : decode cX1_isSet 16 = .ok (.goto 4, 3) := by decide +kernel
theorem dX1_isSet_19 : decode cX1_isSet 19 = .ok (.iconst 0, 1) := by decide +kernel
theorem dX1_isSet_20 : decode cX1_isSet 20 = .ok (.ireturn, 1) := by decide +kernel
abbrev cX1_maximals : ByteArray := prog_1_method_9_code
def yX1_maximals : MethodName := ⟨RX1, "maximals", "()I"⟩
theorem dX1_maximals_0 : decode cX1_maximals 0 = .ok (.aload_n 0, 1) := by decide +kernel
theorem dX1_maximals_1 : decode cX1_maximals 1 = .ok (.invokevirtual 58, 3) := by decide +kernel
theorem dX1_maximals_4 : decode cX1_maximals 4 = .ok (.aload_n 0, 1) := by decide +kernel
theorem dX1_maximals_5 : decode cX1_maximals 5 = .ok (.getfield 75, 3) := by decide +kernel
theorem dX1_maximals_8 : decode cX1_maximals 8 = .ok (.ireturn, 1) := by decide +kernel
abbrev cX1_maximal : ByteArray := prog_1_method_10_code
def yX1_maximal : MethodName := ⟨RX1, "maximal", "(I)I"⟩
theorem dX1_maximal_0 : decode cX1_maximal 0 = .ok (.aload_n 0, 1) := by decide +kernel
theorem dX1_maximal_1 : decode cX1_maximal 1 = .ok (.invokevirtual 58, 3) := by decide +kernel
theorem dX1_maximal_4 : decode cX1_maximal 4 = .ok (.iload_n 1, 1) := by decide +kernel
theorem dX1_maximal_5 : decode cX1_maximal 5 = .ok (.ifCond .lt 20, 3) := by decide +kernel
theorem dX1_maximal_8 : decode cX1_maximal 8 = .ok (.iload_n 1, 1) := by decide +kernel
theorem dX1_maximal_9 : decode cX1_maximal 9 = .ok (.aload_n 0, 1) := by decide +kernel
theorem dX1_maximal_10 : decode cX1_maximal 10 = .ok (.getfield 75, 3) := by decide +kernel
theorem dX1_maximal_13 : decode cX1_maximal 13 = .ok (.if_icmp .ge 12, 3) := by decide +kernel
theorem dX1_maximal_16 : decode cX1_maximal 16 = .ok (.aload_n 0, 1) := by decide +kernel
theorem dX1_maximal_17 : decode cX1_maximal 17 = .ok (.getfield 22, 3) := by decide +kernel
theorem dX1_maximal_20 : decode cX1_maximal 20 = .ok (.iload_n 1, 1) := by decide +kernel
theorem dX1_maximal_21 : decode cX1_maximal 21 = .ok (.iaload, 1) := by decide +kernel
theorem dX1_maximal_22 : decode cX1_maximal 22 = .ok (.goto 4, 3) := by decide +kernel
theorem dX1_maximal_25 : decode cX1_maximal 25 = .ok (.iconst (-1), 1) := by decide +kernel
theorem dX1_maximal_26 : decode cX1_maximal 26 = .ok (.ireturn, 1) := by decide +kernel
abbrev cX1_implied : ByteArray := prog_1_method_11_code
def yX1_implied : MethodName := ⟨RX1, "implied", "(II)I"⟩
theorem dX1_implied_0 : decode cX1_implied 0 = .ok (.aload_n 0, 1) := by decide +kernel
theorem dX1_implied_1 : decode cX1_implied 1 = .ok (.iload_n 1, 1) := by decide +kernel
theorem dX1_implied_2 : decode cX1_implied 2 = .ok (.invokevirtual 69, 3) := by decide +kernel
theorem dX1_implied_5 : decode cX1_implied 5 = .ok (.ifCond .ne 5, 3) := by decide +kernel
theorem dX1_implied_8 : decode cX1_implied 8 = .ok (.iconst (-1), 1) := by decide +kernel
theorem dX1_implied_9 : decode cX1_implied 9 = .ok (.ireturn, 1) := by decide +kernel
theorem dX1_implied_10 : decode cX1_implied 10 = .ok (.iload_n 2, 1) := by decide +kernel
theorem dX1_implied_11 : decode cX1_implied 11 = .ok (.invokestatic 48, 3) := by decide +kernel
theorem dX1_implied_14 : decode cX1_implied 14 = .ok (.ifCond .eq 12, 3) := by decide +kernel
theorem dX1_implied_17 : decode cX1_implied 17 = .ok (.aload_n 0, 1) := by decide +kernel
theorem dX1_implied_18 : decode cX1_implied 18 = .ok (.iload_n 1, 1) := by decide +kernel
theorem dX1_implied_19 : decode cX1_implied 19 = .ok (.iload_n 2, 1) := by decide +kernel
theorem dX1_implied_20 : decode cX1_implied 20 = .ok (.invokevirtual 78, 3) := by decide +kernel
theorem dX1_implied_23 : decode cX1_implied 23 = .ok (.goto 5, 3) := by decide +kernel
theorem dX1_implied_26 : decode cX1_implied 26 = .ok (.bipush (-2), 2) := by decide +kernel
theorem dX1_implied_28 : decode cX1_implied 28 = .ok (.ireturn, 1) := by decide +kernel
abbrev cX1_coverSize : ByteArray := prog_1_method_12_code
def yX1_coverSize : MethodName := ⟨RX1, "coverSize", "()I"⟩
theorem dX1_coverSize_0 : decode cX1_coverSize 0 = .ok (.aload_n 0, 1) := by decide +kernel
theorem dX1_coverSize_1 : decode cX1_coverSize 1 = .ok (.invokevirtual 58, 3) := by decide +kernel
theorem dX1_coverSize_4 : decode cX1_coverSize 4 = .ok (.aload_n 0, 1) := by decide +kernel
theorem dX1_coverSize_5 : decode cX1_coverSize 5 = .ok (.getfield 81, 3) := by decide +kernel
theorem dX1_coverSize_8 : decode cX1_coverSize 8 = .ok (.ireturn, 1) := by decide +kernel
abbrev cX1_coverSet : ByteArray := prog_1_method_13_code
def yX1_coverSet : MethodName := ⟨RX1, "coverSet", "(I)I"⟩
theorem dX1_coverSet_0 : decode cX1_coverSet 0 = .ok (.aload_n 0, 1) := by decide +kernel
theorem dX1_coverSet_1 : decode cX1_coverSet 1 = .ok (.invokevirtual 58, 3) := by decide +kernel
theorem dX1_coverSet_4 : decode cX1_coverSet 4 = .ok (.iload_n 1, 1) := by decide +kernel
theorem dX1_coverSet_5 : decode cX1_coverSet 5 = .ok (.ifCond .lt 20, 3) := by decide +kernel
theorem dX1_coverSet_8 : decode cX1_coverSet 8 = .ok (.iload_n 1, 1) := by decide +kernel
theorem dX1_coverSet_9 : decode cX1_coverSet 9 = .ok (.aload_n 0, 1) := by decide +kernel
theorem dX1_coverSet_10 : decode cX1_coverSet 10 = .ok (.getfield 81, 3) := by decide +kernel
theorem dX1_coverSet_13 : decode cX1_coverSet 13 = .ok (.if_icmp .ge 12, 3) := by decide +kernel
theorem dX1_coverSet_16 : decode cX1_coverSet 16 = .ok (.aload_n 0, 1) := by decide +kernel
theorem dX1_coverSet_17 : decode cX1_coverSet 17 = .ok (.getfield 31, 3) := by decide +kernel
theorem dX1_coverSet_20 : decode cX1_coverSet 20 = .ok (.iload_n 1, 1) := by decide +kernel
theorem dX1_coverSet_21 : decode cX1_coverSet 21 = .ok (.iaload, 1) := by decide +kernel
theorem dX1_coverSet_22 : decode cX1_coverSet 22 = .ok (.goto 4, 3) := by decide +kernel
theorem dX1_coverSet_25 : decode cX1_coverSet 25 = .ok (.iconst (-1), 1) := by decide +kernel
theorem dX1_coverSet_26 : decode cX1_coverSet 26 = .ok (.ireturn, 1) := by decide +kernel
abbrev cX1_isCover : ByteArray := prog_1_method_14_code
def yX1_isCover : MethodName := ⟨RX1, "isCover", "(III)I"⟩
theorem dX1_isCover_0 : decode cX1_isCover 0 = .ok (.iconst 1, 1) := by decide +kernel
theorem dX1_isCover_1 : decode cX1_isCover 1 = .ok (.aload_n 0, 1) := by decide +kernel
theorem dX1_isCover_2 : decode cX1_isCover 2 = .ok (.getfield 40, 3) := by decide +kernel
theorem dX1_isCover_5 : decode cX1_isCover 5 = .ok (.ishl, 1) := by decide +kernel
theorem dX1_isCover_6 : decode cX1_isCover 6 = .ok (.istore 4, 2) := by decide +kernel
theorem dX1_isCover_8 : decode cX1_isCover 8 = .ok (.iload_n 1, 1) := by decide +kernel
theorem dX1_isCover_9 : decode cX1_isCover 9 = .ok (.ifCond .lt 29, 3) := by decide +kernel
theorem dX1_isCover_12 : decode cX1_isCover 12 = .ok (.iload_n 1, 1) := by decide +kernel
theorem dX1_isCover_13 : decode cX1_isCover 13 = .ok (.iload 4, 2) := by decide +kernel
theorem dX1_isCover_15 : decode cX1_isCover 15 = .ok (.if_icmp .ge 23, 3) := by decide +kernel
theorem dX1_isCover_18 : decode cX1_isCover 18 = .ok (.iload_n 2, 1) := by decide +kernel
theorem dX1_isCover_19 : decode cX1_isCover 19 = .ok (.ifCond .lt 19, 3) := by decide +kernel
theorem dX1_isCover_22 : decode cX1_isCover 22 = .ok (.iload_n 2, 1) := by decide +kernel
theorem dX1_isCover_23 : decode cX1_isCover 23 = .ok (.iload 4, 2) := by decide +kernel
theorem dX1_isCover_25 : decode cX1_isCover 25 = .ok (.if_icmp .ge 13, 3) := by decide +kernel
theorem dX1_isCover_28 : decode cX1_isCover 28 = .ok (.iload_n 3, 1) := by decide +kernel
theorem dX1_isCover_29 : decode cX1_isCover 29 = .ok (.ifCond .lt 9, 3) := by decide +kernel
theorem dX1_isCover_32 : decode cX1_isCover 32 = .ok (.iload_n 3, 1) := by decide +kernel
theorem dX1_isCover_33 : decode cX1_isCover 33 = .ok (.iload 4, 2) := by decide +kernel
theorem dX1_isCover_35 : decode cX1_isCover 35 = .ok (.if_icmp .lt 5, 3) := by decide +kernel
theorem dX1_isCover_38 : decode cX1_isCover 38 = .ok (.iconst (-1), 1) := by decide +kernel
theorem dX1_isCover_39 : decode cX1_isCover 39 = .ok (.ireturn, 1) := by decide +kernel
theorem dX1_isCover_40 : decode cX1_isCover 40 = .ok (.iload_n 1, 1) := by decide +kernel
theorem dX1_isCover_41 : decode cX1_isCover 41 = .ok (.iload_n 2, 1) := by decide +kernel
theorem dX1_isCover_42 : decode cX1_isCover 42 = .ok (.ior, 1) := by decide +kernel
theorem dX1_isCover_43 : decode cX1_isCover 43 = .ok (.iload_n 3, 1) := by decide +kernel
theorem dX1_isCover_44 : decode cX1_isCover 44 = .ok (.ior, 1) := by decide +kernel
theorem dX1_isCover_45 : decode cX1_isCover 45 = .ok (.ifCond .ne 5, 3) := by decide +kernel
theorem dX1_isCover_48 : decode cX1_isCover 48 = .ok (.iconst (-1), 1) := by decide +kernel
theorem dX1_isCover_49 : decode cX1_isCover 49 = .ok (.ireturn, 1) := by decide +kernel
theorem dX1_isCover_50 : decode cX1_isCover 50 = .ok (.aload_n 0, 1) := by decide +kernel
theorem dX1_isCover_51 : decode cX1_isCover 51 = .ok (.invokevirtual 58, 3) := by decide +kernel
theorem dX1_isCover_54 : decode cX1_isCover 54 = .ok (.aload_n 0, 1) := by decide +kernel
theorem dX1_isCover_55 : decode cX1_isCover 55 = .ok (.iload_n 1, 1) := by decide +kernel
theorem dX1_isCover_56 : decode cX1_isCover 56 = .ok (.invokevirtual 72, 3) := by decide +kernel
theorem dX1_isCover_59 : decode cX1_isCover 59 = .ok (.ifCond .eq 31, 3) := by decide +kernel
theorem dX1_isCover_62 : decode cX1_isCover 62 = .ok (.aload_n 0, 1) := by decide +kernel
theorem dX1_isCover_63 : decode cX1_isCover 63 = .ok (.iload_n 2, 1) := by decide +kernel
theorem dX1_isCover_64 : decode cX1_isCover 64 = .ok (.invokevirtual 72, 3) := by decide +kernel
theorem dX1_isCover_67 : decode cX1_isCover 67 = .ok (.ifCond .eq 23, 3) := by decide +kernel
theorem dX1_isCover_70 : decode cX1_isCover 70 = .ok (.aload_n 0, 1) := by decide +kernel
theorem dX1_isCover_71 : decode cX1_isCover 71 = .ok (.iload_n 3, 1) := by decide +kernel
theorem dX1_isCover_72 : decode cX1_isCover 72 = .ok (.invokevirtual 72, 3) := by decide +kernel
theorem dX1_isCover_75 : decode cX1_isCover 75 = .ok (.ifCond .eq 15, 3) := by decide +kernel
theorem dX1_isCover_78 : decode cX1_isCover 78 = .ok (.iload_n 1, 1) := by decide +kernel
theorem dX1_isCover_79 : decode cX1_isCover 79 = .ok (.iload_n 2, 1) := by decide +kernel
theorem dX1_isCover_80 : decode cX1_isCover 80 = .ok (.ior, 1) := by decide +kernel
theorem dX1_isCover_81 : decode cX1_isCover 81 = .ok (.iload_n 3, 1) := by decide +kernel
theorem dX1_isCover_82 : decode cX1_isCover 82 = .ok (.ior, 1) := by decide +kernel
theorem dX1_isCover_83 : decode cX1_isCover 83 = .ok (.iload 4, 2) := by decide +kernel
theorem dX1_isCover_85 : decode cX1_isCover 85 = .ok (.iconst 1, 1) := by decide +kernel
theorem dX1_isCover_86 : decode cX1_isCover 86 = .ok (.isub, 1) := by decide +kernel
theorem dX1_isCover_87 : decode cX1_isCover 87 = .ok (.if_icmp .eq 5, 3) := by decide +kernel
theorem dX1_isCover_90 : decode cX1_isCover 90 = .ok (.iconst 0, 1) := by decide +kernel
theorem dX1_isCover_91 : decode cX1_isCover 91 = .ok (.ireturn, 1) := by decide +kernel
theorem dX1_isCover_92 : decode cX1_isCover 92 = .ok (.iconst 1, 1) := by decide +kernel
theorem dX1_isCover_93 : decode cX1_isCover 93 = .ok (.istore 5, 2) := by decide +kernel
theorem dX1_isCover_95 : decode cX1_isCover 95 = .ok (.iconst 0, 1) := by decide +kernel
theorem dX1_isCover_96 : decode cX1_isCover 96 = .ok (.istore 6, 2) := by decide +kernel
theorem dX1_isCover_98 : decode cX1_isCover 98 = .ok (.iload 6, 2) := by decide +kernel
theorem dX1_isCover_100 : decode cX1_isCover 100 = .ok (.iconst 2, 1) := by decide +kernel
theorem dX1_isCover_101 : decode cX1_isCover 101 = .ok (.if_icmp .ge 81, 3) := by decide +kernel
theorem dX1_isCover_104 : decode cX1_isCover 104 = .ok (.aload_n 0, 1) := by decide +kernel
theorem dX1_isCover_105 : decode cX1_isCover 105 = .ok (.iload_n 1, 1) := by decide +kernel
theorem dX1_isCover_106 : decode cX1_isCover 106 = .ok (.iload 6, 2) := by decide +kernel
theorem dX1_isCover_108 : decode cX1_isCover 108 = .ok (.invokevirtual 78, 3) := by decide +kernel
theorem dX1_isCover_111 : decode cX1_isCover 111 = .ok (.istore 7, 2) := by decide +kernel
theorem dX1_isCover_113 : decode cX1_isCover 113 = .ok (.aload_n 0, 1) := by decide +kernel
theorem dX1_isCover_114 : decode cX1_isCover 114 = .ok (.iload_n 2, 1) := by decide +kernel
theorem dX1_isCover_115 : decode cX1_isCover 115 = .ok (.iload 6, 2) := by decide +kernel
theorem dX1_isCover_117 : decode cX1_isCover 117 = .ok (.invokevirtual 78, 3) := by decide +kernel
theorem dX1_isCover_120 : decode cX1_isCover 120 = .ok (.istore 8, 2) := by decide +kernel
theorem dX1_isCover_122 : decode cX1_isCover 122 = .ok (.aload_n 0, 1) := by decide +kernel
theorem dX1_isCover_123 : decode cX1_isCover 123 = .ok (.iload_n 3, 1) := by decide +kernel
theorem dX1_isCover_124 : decode cX1_isCover 124 = .ok (.iload 6, 2) := by decide +kernel
theorem dX1_isCover_126 : decode cX1_isCover 126 = .ok (.invokevirtual 78, 3) := by decide +kernel
theorem dX1_isCover_129 : decode cX1_isCover 129 = .ok (.istore 9, 2) := by decide +kernel
theorem dX1_isCover_131 : decode cX1_isCover 131 = .ok (.iload 5, 2) := by decide +kernel
theorem dX1_isCover_133 : decode cX1_isCover 133 = .ok (.ifCond .eq 40, 3) := by decide +kernel
theorem dX1_isCover_136 : decode cX1_isCover 136 = .ok (.iload 7, 2) := by decide +kernel
theorem dX1_isCover_138 : decode cX1_isCover 138 = .ok (.iload_n 1, 1) := by decide +kernel
theorem dX1_isCover_139 : decode cX1_isCover 139 = .ok (.iload_n 2, 1) := by decide +kernel
theorem dX1_isCover_140 : decode cX1_isCover 140 = .ok (.iload_n 3, 1) := by decide +kernel
theorem dX1_isCover_141 : decode cX1_isCover 141 = .ok (.invokestatic 84, 3) := by decide +kernel
theorem dX1_isCover_144 : decode cX1_isCover 144 = .ok (.ifCond .eq 29, 3) := by decide +kernel
theorem dX1_isCover_147 : decode cX1_isCover 147 = .ok (.iload 8, 2) := by decide +kernel
theorem dX1_isCover_149 : decode cX1_isCover 149 = .ok (.iload_n 1, 1) := by decide +kernel
theorem dX1_isCover_150 : decode cX1_isCover 150 = .ok (.iload_n 2, 1) := by decide +kernel
theorem dX1_isCover_151 : decode cX1_isCover 151 = .ok (.iload_n 3, 1) := by decide +kernel
theorem dX1_isCover_152 : decode cX1_isCover 152 = .ok (.invokestatic 84, 3) := by decide +kernel
theorem dX1_isCover_155 : decode cX1_isCover 155 = .ok (.ifCond .eq 18, 3) := by decide +kernel
theorem dX1_isCover_158 : decode cX1_isCover 158 = .ok (.iload 9, 2) := by decide +kernel
theorem dX1_isCover_160 : decode cX1_isCover 160 = .ok (.iload_n 1, 1) := by decide +kernel
theorem dX1_isCover_161 : decode cX1_isCover 161 = .ok (.iload_n 2, 1) := by decide +kernel
theorem dX1_isCover_162 : decode cX1_isCover 162 = .ok (.iload_n 3, 1) := by decide +kernel
theorem dX1_isCover_163 : decode cX1_isCover 163 = .ok (.invokestatic 84, 3) := by decide +kernel
theorem dX1_isCover_166 : decode cX1_isCover 166 = .ok (.ifCond .eq 7, 3) := by decide +kernel
theorem dX1_isCover_169 : decode cX1_isCover 169 = .ok (.iconst 1, 1) := by decide +kernel
theorem dX1_isCover_170 : decode cX1_isCover 170 = .ok (.goto 4, 3) := by decide +kernel
theorem dX1_isCover_173 : decode cX1_isCover 173 = .ok (.iconst 0, 1) := by decide +kernel
theorem dX1_isCover_174 : decode cX1_isCover 174 = .ok (.istore 5, 2) := by decide +kernel
theorem dX1_isCover_176 : decode cX1_isCover 176 = .ok (.iinc 6 1, 3) := by decide +kernel
theorem dX1_isCover_179 : decode cX1_isCover 179 = .ok (.goto (-81), 3) := by decide +kernel
theorem dX1_isCover_182 : decode cX1_isCover 182 = .ok (.iload 5, 2) := by decide +kernel
theorem dX1_isCover_184 : decode cX1_isCover 184 = .ok (.ifCond .eq 7, 3) := by decide +kernel
theorem dX1_isCover_187 : decode cX1_isCover 187 = .ok (.iconst 1, 1) := by decide +kernel
theorem dX1_isCover_188 : decode cX1_isCover 188 = .ok (.goto 4, 3) := by decide +kernel
theorem dX1_isCover_191 : decode cX1_isCover 191 = .ok (.iconst 0, 1) := by decide +kernel
theorem dX1_isCover_192 : decode cX1_isCover 192 = .ok (.ireturn, 1) := by decide +kernel
abbrev cX1_inOne : ByteArray := prog_1_method_23_code
def yX1_inOne : MethodName := ⟨RX1, "inOne", "(IIII)Z"⟩
theorem dX1_inOne_0 : decode cX1_inOne 0 = .ok (.iload_n 0, 1) := by decide +kernel
theorem dX1_inOne_1 : decode cX1_inOne 1 = .ok (.iload_n 1, 1) := by decide +kernel
theorem dX1_inOne_2 : decode cX1_inOne 2 = .ok (.iconst (-1), 1) := by decide +kernel
theorem dX1_inOne_3 : decode cX1_inOne 3 = .ok (.ixor, 1) := by decide +kernel
theorem dX1_inOne_4 : decode cX1_inOne 4 = .ok (.iand, 1) := by decide +kernel
theorem dX1_inOne_5 : decode cX1_inOne 5 = .ok (.ifCond .eq 19, 3) := by decide +kernel
theorem dX1_inOne_8 : decode cX1_inOne 8 = .ok (.iload_n 0, 1) := by decide +kernel
theorem dX1_inOne_9 : decode cX1_inOne 9 = .ok (.iload_n 2, 1) := by decide +kernel
theorem dX1_inOne_10 : decode cX1_inOne 10 = .ok (.iconst (-1), 1) := by decide +kernel
theorem dX1_inOne_11 : decode cX1_inOne 11 = .ok (.ixor, 1) := by decide +kernel
theorem dX1_inOne_12 : decode cX1_inOne 12 = .ok (.iand, 1) := by decide +kernel
theorem dX1_inOne_13 : decode cX1_inOne 13 = .ok (.ifCond .eq 11, 3) := by decide +kernel
theorem dX1_inOne_16 : decode cX1_inOne 16 = .ok (.iload_n 0, 1) := by decide +kernel
theorem dX1_inOne_17 : decode cX1_inOne 17 = .ok (.iload_n 3, 1) := by decide +kernel
theorem dX1_inOne_18 : decode cX1_inOne 18 = .ok (.iconst (-1), 1) := by decide +kernel
theorem dX1_inOne_19 : decode cX1_inOne 19 = .ok (.ixor, 1) := by decide +kernel
theorem dX1_inOne_20 : decode cX1_inOne 20 = .ok (.iand, 1) := by decide +kernel
theorem dX1_inOne_21 : decode cX1_inOne 21 = .ok (.ifCond .ne 7, 3) := by decide +kernel
theorem dX1_inOne_24 : decode cX1_inOne 24 = .ok (.iconst 1, 1) := by decide +kernel
theorem dX1_inOne_25 : decode cX1_inOne 25 = .ok (.goto 4, 3) := by decide +kernel
theorem dX1_inOne_28 : decode cX1_inOne 28 = .ok (.iconst 0, 1) := by decide +kernel
theorem dX1_inOne_29 : decode cX1_inOne 29 = .ok (.ireturn, 1) := by decide +kernel
abbrev cX1_restart : ByteArray := prog_1_method_15_code
def yX1_restart : MethodName := ⟨RX1, "restart", "()V"⟩
theorem dX1_restart_0 : decode cX1_restart 0 = .ok (.aload_n 0, 1) := by decide +kernel
theorem dX1_restart_1 : decode cX1_restart 1 = .ok (.invokevirtual 58, 3) := by decide +kernel
theorem dX1_restart_4 : decode cX1_restart 4 = .ok (.aload_n 0, 1) := by decide +kernel
theorem dX1_restart_5 : decode cX1_restart 5 = .ok (.iconst 0, 1) := by decide +kernel
theorem dX1_restart_6 : decode cX1_restart 6 = .ok (.putfield 55, 3) := by decide +kernel
theorem dX1_restart_9 : decode cX1_restart 9 = .ok (.aload_n 0, 1) := by decide +kernel
theorem dX1_restart_10 : decode cX1_restart 10 = .ok (.aload_n 0, 1) := by decide +kernel
theorem dX1_restart_11 : decode cX1_restart 11 = .ok (.iconst 1, 1) := by decide +kernel
theorem dX1_restart_12 : decode cX1_restart 12 = .ok (.invokevirtual 87, 3) := by decide +kernel
theorem dX1_restart_15 : decode cX1_restart 15 = .ok (.putfield 91, 3) := by decide +kernel
theorem dX1_restart_18 : decode cX1_restart 18 = .ok (.return_, 1) := by decide +kernel
abbrev cX1_read : ByteArray := prog_1_method_16_code
def yX1_read : MethodName := ⟨RX1, "read", "(I)I"⟩
theorem dX1_read_0 : decode cX1_read 0 = .ok (.iload_n 1, 1) := by decide +kernel
theorem dX1_read_1 : decode cX1_read 1 = .ok (.invokestatic 48, 3) := by decide +kernel
theorem dX1_read_4 : decode cX1_read 4 = .ok (.ifCond .ne 5, 3) := by decide +kernel
theorem dX1_read_7 : decode cX1_read 7 = .ok (.iconst (-1), 1) := by decide +kernel
theorem dX1_read_8 : decode cX1_read 8 = .ok (.ireturn, 1) := by decide +kernel
theorem dX1_read_9 : decode cX1_read 9 = .ok (.aload_n 0, 1) := by decide +kernel
theorem dX1_read_10 : decode cX1_read 10 = .ok (.getfield 55, 3) := by decide +kernel
theorem dX1_read_13 : decode cX1_read 13 = .ok (.iconst (-1), 1) := by decide +kernel
theorem dX1_read_14 : decode cX1_read 14 = .ok (.if_icmp .ne 6, 3) := by decide +kernel
theorem dX1_read_17 : decode cX1_read 17 = .ok (.bipush (-3), 2) := by decide +kernel
theorem dX1_read_19 : decode cX1_read 19 = .ok (.ireturn, 1) := by decide +kernel
theorem dX1_read_20 : decode cX1_read 20 = .ok (.aload_n 0, 1) := by decide +kernel
theorem dX1_read_21 : decode cX1_read 21 = .ok (.invokevirtual 58, 3) := by decide +kernel
theorem dX1_read_24 : decode cX1_read 24 = .ok (.aload_n 0, 1) := by decide +kernel
theorem dX1_read_25 : decode cX1_read 25 = .ok (.aload_n 0, 1) := by decide +kernel
theorem dX1_read_26 : decode cX1_read 26 = .ok (.getfield 55, 3) := by decide +kernel
theorem dX1_read_29 : decode cX1_read 29 = .ok (.iload_n 1, 1) := by decide +kernel
theorem dX1_read_30 : decode cX1_read 30 = .ok (.invokevirtual 94, 3) := by decide +kernel
theorem dX1_read_33 : decode cX1_read 33 = .ok (.iconst (-1), 1) := by decide +kernel
theorem dX1_read_34 : decode cX1_read 34 = .ok (.if_icmp .eq 7, 3) := by decide +kernel
theorem dX1_read_37 : decode cX1_read 37 = .ok (.iconst 1, 1) := by decide +kernel
theorem dX1_read_38 : decode cX1_read 38 = .ok (.goto 4, 3) := by decide +kernel
theorem dX1_read_41 : decode cX1_read 41 = .ok (.iconst 0, 1) := by decide +kernel
theorem dX1_read_42 : decode cX1_read 42 = .ok (.istore_n 2, 1) := by decide +kernel
theorem dX1_read_43 : decode cX1_read 43 = .ok (.aload_n 0, 1) := by decide +kernel
theorem dX1_read_44 : decode cX1_read 44 = .ok (.getfield 37, 3) := by decide +kernel
theorem dX1_read_47 : decode cX1_read 47 = .ok (.iconst 2, 1) := by decide +kernel
theorem dX1_read_48 : decode cX1_read 48 = .ok (.aload_n 0, 1) := by decide +kernel
theorem dX1_read_49 : decode cX1_read 49 = .ok (.getfield 91, 3) := by decide +kernel
theorem dX1_read_52 : decode cX1_read 52 = .ok (.imul, 1) := by decide +kernel
theorem dX1_read_53 : decode cX1_read 53 = .ok (.iload_n 1, 1) := by decide +kernel
theorem dX1_read_54 : decode cX1_read 54 = .ok (.iadd, 1) := by decide +kernel
theorem dX1_read_55 : decode cX1_read 55 = .ok (.iaload, 1) := by decide +kernel
theorem dX1_read_56 : decode cX1_read 56 = .ok (.istore_n 3, 1) := by decide +kernel
theorem dX1_read_57 : decode cX1_read 57 = .ok (.aload_n 0, 1) := by decide +kernel
theorem dX1_read_58 : decode cX1_read 58 = .ok (.aload_n 0, 1) := by decide +kernel
theorem dX1_read_59 : decode cX1_read 59 = .ok (.aload_n 0, 1) := by decide +kernel
theorem dX1_read_60 : decode cX1_read 60 = .ok (.getfield 55, 3) := by decide +kernel
theorem dX1_read_63 : decode cX1_read 63 = .ok (.iload_n 1, 1) := by decide +kernel
theorem dX1_read_64 : decode cX1_read 64 = .ok (.invokevirtual 65, 3) := by decide +kernel
theorem dX1_read_67 : decode cX1_read 67 = .ok (.putfield 55, 3) := by decide +kernel
theorem dX1_read_70 : decode cX1_read 70 = .ok (.aload_n 0, 1) := by decide +kernel
theorem dX1_read_71 : decode cX1_read 71 = .ok (.getfield 55, 3) := by decide +kernel
theorem dX1_read_74 : decode cX1_read 74 = .ok (.iconst (-1), 1) := by decide +kernel
theorem dX1_read_75 : decode cX1_read 75 = .ok (.if_icmp .eq 20, 3) := by decide +kernel
theorem dX1_read_78 : decode cX1_read 78 = .ok (.aload_n 0, 1) := by decide +kernel
theorem dX1_read_79 : decode cX1_read 79 = .ok (.aload_n 0, 1) := by decide +kernel
theorem dX1_read_80 : decode cX1_read 80 = .ok (.getfield 34, 3) := by decide +kernel
theorem dX1_read_83 : decode cX1_read 83 = .ok (.iconst 2, 1) := by decide +kernel
theorem dX1_read_84 : decode cX1_read 84 = .ok (.aload_n 0, 1) := by decide +kernel
theorem dX1_read_85 : decode cX1_read 85 = .ok (.getfield 91, 3) := by decide +kernel
theorem dX1_read_88 : decode cX1_read 88 = .ok (.imul, 1) := by decide +kernel
theorem dX1_read_89 : decode cX1_read 89 = .ok (.iload_n 1, 1) := by decide +kernel
theorem dX1_read_90 : decode cX1_read 90 = .ok (.iadd, 1) := by decide +kernel
theorem dX1_read_91 : decode cX1_read 91 = .ok (.iaload, 1) := by decide +kernel
theorem dX1_read_92 : decode cX1_read 92 = .ok (.putfield 91, 3) := by decide +kernel
theorem dX1_read_95 : decode cX1_read 95 = .ok (.iload_n 2, 1) := by decide +kernel
theorem dX1_read_96 : decode cX1_read 96 = .ok (.ifCond .eq 7, 3) := by decide +kernel
theorem dX1_read_99 : decode cX1_read 99 = .ok (.iload_n 3, 1) := by decide +kernel
theorem dX1_read_100 : decode cX1_read 100 = .ok (.goto 5, 3) := by decide +kernel
theorem dX1_read_103 : decode cX1_read 103 = .ok (.bipush (-2), 2) := by decide +kernel
theorem dX1_read_105 : decode cX1_read 105 = .ok (.ireturn, 1) := by decide +kernel
abbrev cX1_lost : ByteArray := prog_1_method_17_code
def yX1_lost : MethodName := ⟨RX1, "lost", "()I"⟩
theorem dX1_lost_0 : decode cX1_lost 0 = .ok (.aload_n 0, 1) := by decide +kernel
theorem dX1_lost_1 : decode cX1_lost 1 = .ok (.getfield 55, 3) := by decide +kernel
theorem dX1_lost_4 : decode cX1_lost 4 = .ok (.iconst (-1), 1) := by decide +kernel
theorem dX1_lost_5 : decode cX1_lost 5 = .ok (.if_icmp .ne 7, 3) := by decide +kernel
theorem dX1_lost_8 : decode cX1_lost 8 = .ok (.iconst 1, 1) := by decide +kernel
theorem dX1_lost_9 : decode cX1_lost 9 = .ok (.goto 4, 3) := by decide +kernel
theorem dX1_lost_12 : decode cX1_lost 12 = .ok (.iconst 0, 1) := by decide +kernel
theorem dX1_lost_13 : decode cX1_lost 13 = .ok (.ireturn, 1) := by decide +kernel
theorem q37 : (Jvm.Cond.initialized "FsmReducer") ∈ lw_all := lw_g (lw_at lw_m1 1 rfl) rfl
theorem q40 : (Jvm.Cond.instantiable "FsmReducer" (17 : Nat)) ∈ lw_all := lw_g (lw_at lw_m1 4 rfl) rfl
theorem q42 : (Jvm.Cond.instanceMethod ({ cls := "FsmReducer", name := "<init>", desc := "(I)V" } : Jvm.MethodName)) ∈ lw_all := lw_g (lw_at lw_m1 6 rfl) rfl
theorem q43 : (Jvm.Cond.code ({ cls := "FsmReducer", name := "<init>", desc := "(I)V" } : Jvm.MethodName) prog_1_method_1_code (2 : Nat) (Option.none : Option Jvm.ClassFile.FieldType)) ∈ lw_all := lw_g (lw_at lw_m1 7 rfl) rfl
theorem q44 : (Jvm.Cond.methodLink "FsmReducer" (1 : Nat) ({ cls := "java/lang/Object", name := "<init>", desc := "()V" } : Jvm.MethodName)) ∈ lw_all := lw_g (lw_at lw_m1 8 rfl) rfl
theorem q47 : (Jvm.Cond.fieldLink "FsmReducer" (7 : Nat) "FsmReducer" "entries" "[I") ∈ lw_all := lw_g (lw_at lw_m1 11 rfl) rfl
theorem q48 : (Jvm.Cond.fieldLink "FsmReducer" (13 : Nat) "FsmReducer" "level" "[I") ∈ lw_all := lw_g (lw_at lw_m1 12 rfl) rfl
theorem q49 : (Jvm.Cond.fieldLink "FsmReducer" (16 : Nat) "FsmReducer" "sets" "[I") ∈ lw_all := lw_g (lw_at lw_m1 13 rfl) rfl
theorem q50 : (Jvm.Cond.fieldLink "FsmReducer" (19 : Nat) "FsmReducer" "later" "[I") ∈ lw_all := lw_g (lw_at lw_m1 14 rfl) rfl
theorem q51 : (Jvm.Cond.fieldLink "FsmReducer" (22 : Nat) "FsmReducer" "largest" "[I") ∈ lw_all := lw_g (lw_at lw_m1 15 rfl) rfl
theorem q52 : (Jvm.Cond.fieldLink "FsmReducer" (25 : Nat) "FsmReducer" "pick" "[I") ∈ lw_all := lw_g (lw_at lw_m1 16 rfl) rfl
theorem q53 : (Jvm.Cond.fieldLink "FsmReducer" (28 : Nat) "FsmReducer" "union" "[I") ∈ lw_all := lw_g (lw_at lw_m1 17 rfl) rfl
theorem q54 : (Jvm.Cond.fieldLink "FsmReducer" (31 : Nat) "FsmReducer" "cover" "[I") ∈ lw_all := lw_g (lw_at lw_m1 18 rfl) rfl
theorem q55 : (Jvm.Cond.fieldLink "FsmReducer" (34 : Nat) "FsmReducer" "nextClass" "[I") ∈ lw_all := lw_g (lw_at lw_m1 19 rfl) rfl
theorem q56 : (Jvm.Cond.fieldLink "FsmReducer" (37 : Nat) "FsmReducer" "classOut" "[I") ∈ lw_all := lw_g (lw_at lw_m1 20 rfl) rfl
theorem q57 : (Jvm.Cond.fieldLink "FsmReducer" (40 : Nat) "FsmReducer" "n" "I") ∈ lw_all := lw_g (lw_at lw_m1 21 rfl) rfl
theorem q58 : (Jvm.Cond.fieldLink "FsmReducer" (112 : Nat) "FsmReducer" "setCount" "I") ∈ lw_all := lw_g (lw_at lw_m1 22 rfl) rfl
theorem q59 : (Jvm.Cond.fieldLink "FsmReducer" (75 : Nat) "FsmReducer" "largestCount" "I") ∈ lw_all := lw_g (lw_at lw_m1 23 rfl) rfl
theorem q60 : (Jvm.Cond.fieldLink "FsmReducer" (81 : Nat) "FsmReducer" "coverCount" "I") ∈ lw_all := lw_g (lw_at lw_m1 24 rfl) rfl
theorem q61 : (Jvm.Cond.fieldLink "FsmReducer" (51 : Nat) "FsmReducer" "current" "Z") ∈ lw_all := lw_g (lw_at lw_m1 25 rfl) rfl
theorem q62 : (Jvm.Cond.fieldLink "FsmReducer" (55 : Nat) "FsmReducer" "state" "I") ∈ lw_all := lw_g (lw_at lw_m1 26 rfl) rfl
theorem q63 : (Jvm.Cond.fieldLink "FsmReducer" (91 : Nat) "FsmReducer" "inClass" "I") ∈ lw_all := lw_g (lw_at lw_m1 27 rfl) rfl
theorem q64 : (Jvm.Cond.laysFinal "FsmReducer" "FsmReducer" "entries" "[I") ∈ lw_all := lw_g (lw_at lw_m1 28 rfl) rfl
theorem q65 : (Jvm.Cond.soleField "FsmReducer" "entries") ∈ lw_all := lw_g (lw_at lw_m1 29 rfl) rfl
theorem q66 : (Jvm.Cond.laysFinal "FsmReducer" "FsmReducer" "level" "[I") ∈ lw_all := lw_g (lw_at lw_m1 30 rfl) rfl
theorem q67 : (Jvm.Cond.soleField "FsmReducer" "level") ∈ lw_all := lw_g (lw_at lw_m1 31 rfl) rfl
theorem q68 : (Jvm.Cond.laysFinal "FsmReducer" "FsmReducer" "sets" "[I") ∈ lw_all := lw_g (lw_at lw_m1 32 rfl) rfl
theorem q69 : (Jvm.Cond.soleField "FsmReducer" "sets") ∈ lw_all := lw_g (lw_at lw_m1 33 rfl) rfl
theorem q70 : (Jvm.Cond.laysFinal "FsmReducer" "FsmReducer" "later" "[I") ∈ lw_all := lw_g (lw_at lw_m1 34 rfl) rfl
theorem q71 : (Jvm.Cond.soleField "FsmReducer" "later") ∈ lw_all := lw_g (lw_at lw_m1 35 rfl) rfl
theorem q72 : (Jvm.Cond.laysFinal "FsmReducer" "FsmReducer" "largest" "[I") ∈ lw_all := lw_g (lw_at lw_m1 36 rfl) rfl
theorem q73 : (Jvm.Cond.soleField "FsmReducer" "largest") ∈ lw_all := lw_g (lw_at lw_m1 37 rfl) rfl
theorem q74 : (Jvm.Cond.laysFinal "FsmReducer" "FsmReducer" "pick" "[I") ∈ lw_all := lw_g (lw_at lw_m1 38 rfl) rfl
theorem q75 : (Jvm.Cond.soleField "FsmReducer" "pick") ∈ lw_all := lw_g (lw_at lw_m1 39 rfl) rfl
theorem q76 : (Jvm.Cond.laysFinal "FsmReducer" "FsmReducer" "union" "[I") ∈ lw_all := lw_g (lw_at lw_m1 40 rfl) rfl
theorem q77 : (Jvm.Cond.soleField "FsmReducer" "union") ∈ lw_all := lw_g (lw_at lw_m1 41 rfl) rfl
theorem q78 : (Jvm.Cond.laysFinal "FsmReducer" "FsmReducer" "cover" "[I") ∈ lw_all := lw_g (lw_at lw_m1 42 rfl) rfl
theorem q79 : (Jvm.Cond.soleField "FsmReducer" "cover") ∈ lw_all := lw_g (lw_at lw_m1 43 rfl) rfl
theorem q80 : (Jvm.Cond.laysFinal "FsmReducer" "FsmReducer" "nextClass" "[I") ∈ lw_all := lw_g (lw_at lw_m1 44 rfl) rfl
theorem q81 : (Jvm.Cond.soleField "FsmReducer" "nextClass") ∈ lw_all := lw_g (lw_at lw_m1 45 rfl) rfl
theorem q82 : (Jvm.Cond.laysFinal "FsmReducer" "FsmReducer" "classOut" "[I") ∈ lw_all := lw_g (lw_at lw_m1 46 rfl) rfl
theorem q83 : (Jvm.Cond.soleField "FsmReducer" "classOut") ∈ lw_all := lw_g (lw_at lw_m1 47 rfl) rfl
theorem q84 : (Jvm.Cond.lays "FsmReducer" "FsmReducer" "n" "I") ∈ lw_all := lw_g (lw_at lw_m1 48 rfl) rfl
theorem q85 : (Jvm.Cond.soleField "FsmReducer" "n") ∈ lw_all := lw_g (lw_at lw_m1 49 rfl) rfl
theorem q86 : (Jvm.Cond.lays "FsmReducer" "FsmReducer" "setCount" "I") ∈ lw_all := lw_g (lw_at lw_m1 50 rfl) rfl
theorem q87 : (Jvm.Cond.soleField "FsmReducer" "setCount") ∈ lw_all := lw_g (lw_at lw_m1 51 rfl) rfl
theorem q88 : (Jvm.Cond.lays "FsmReducer" "FsmReducer" "largestCount" "I") ∈ lw_all := lw_g (lw_at lw_m1 52 rfl) rfl
theorem q89 : (Jvm.Cond.soleField "FsmReducer" "largestCount") ∈ lw_all := lw_g (lw_at lw_m1 53 rfl) rfl
theorem q90 : (Jvm.Cond.lays "FsmReducer" "FsmReducer" "coverCount" "I") ∈ lw_all := lw_g (lw_at lw_m1 54 rfl) rfl
theorem q91 : (Jvm.Cond.soleField "FsmReducer" "coverCount") ∈ lw_all := lw_g (lw_at lw_m1 55 rfl) rfl
theorem q92 : (Jvm.Cond.lays "FsmReducer" "FsmReducer" "current" "Z") ∈ lw_all := lw_g (lw_at lw_m1 56 rfl) rfl
theorem q93 : (Jvm.Cond.soleField "FsmReducer" "current") ∈ lw_all := lw_g (lw_at lw_m1 57 rfl) rfl
theorem q94 : (Jvm.Cond.lays "FsmReducer" "FsmReducer" "state" "I") ∈ lw_all := lw_g (lw_at lw_m1 58 rfl) rfl
theorem q95 : (Jvm.Cond.soleField "FsmReducer" "state") ∈ lw_all := lw_g (lw_at lw_m1 59 rfl) rfl
theorem q96 : (Jvm.Cond.lays "FsmReducer" "FsmReducer" "inClass" "I") ∈ lw_all := lw_g (lw_at lw_m1 60 rfl) rfl
theorem q97 : (Jvm.Cond.soleField "FsmReducer" "inClass") ∈ lw_all := lw_g (lw_at lw_m1 61 rfl) rfl
theorem q98 : (Jvm.Cond.superclass "FsmReducer" "java/lang/Object") ∈ lw_all := lw_g (lw_at lw_m1 62 rfl) rfl
theorem q101 : (Jvm.Cond.instanceMethod ({ cls := "FsmReducer", name := "states", desc := "()I" } : Jvm.MethodName)) ∈ lw_all := lw_g (lw_at lw_m1 65 rfl) rfl
theorem q102 : (Jvm.Cond.selects "FsmReducer" ({ cls := "FsmReducer", name := "states", desc := "()I" } : Jvm.MethodName) ({ cls := "FsmReducer", name := "states", desc := "()I" } : Jvm.MethodName)) ∈ lw_all := lw_g (lw_at lw_m1 66 rfl) rfl
theorem q103 : (Jvm.Cond.code ({ cls := "FsmReducer", name := "states", desc := "()I" } : Jvm.MethodName) prog_1_method_2_code (1 : Nat) (Option.some Jvm.ClassFile.FieldType.int)) ∈ lw_all := lw_g (lw_at lw_m1 67 rfl) rfl
theorem q105 : (Jvm.Cond.instanceMethod ({ cls := "FsmReducer", name := "set", desc := "(III)I" } : Jvm.MethodName)) ∈ lw_all := lw_g (lw_at lw_m1 69 rfl) rfl
theorem q106 : (Jvm.Cond.selects "FsmReducer" ({ cls := "FsmReducer", name := "set", desc := "(III)I" } : Jvm.MethodName) ({ cls := "FsmReducer", name := "set", desc := "(III)I" } : Jvm.MethodName)) ∈ lw_all := lw_g (lw_at lw_m1 70 rfl) rfl
theorem q107 : (Jvm.Cond.code ({ cls := "FsmReducer", name := "set", desc := "(III)I" } : Jvm.MethodName) prog_1_method_3_code (5 : Nat) (Option.some Jvm.ClassFile.FieldType.int)) ∈ lw_all := lw_g (lw_at lw_m1 71 rfl) rfl
theorem q108 : (Jvm.Cond.methodLink "FsmReducer" (44 : Nat) ({ cls := "FsmReducer", name := "isState", desc := "(I)Z" } : Jvm.MethodName)) ∈ lw_all := lw_g (lw_at lw_m1 72 rfl) rfl
theorem q109 : (Jvm.Cond.privateMethod ({ cls := "FsmReducer", name := "isState", desc := "(I)Z" } : Jvm.MethodName)) ∈ lw_tbl := lw_at lw_m1 73 rfl
theorem q110 : (Jvm.Cond.instanceMethod ({ cls := "FsmReducer", name := "isState", desc := "(I)Z" } : Jvm.MethodName)) ∈ lw_all := lw_g (lw_at lw_m1 74 rfl) rfl
theorem q111 : (Jvm.Cond.code ({ cls := "FsmReducer", name := "isState", desc := "(I)Z" } : Jvm.MethodName) prog_1_method_18_code (2 : Nat) (Option.some Jvm.ClassFile.FieldType.boolean)) ∈ lw_all := lw_g (lw_at lw_m1 75 rfl) rfl
theorem q112 : (Jvm.Cond.methodLink "FsmReducer" (48 : Nat) ({ cls := "FsmReducer", name := "isInput", desc := "(I)Z" } : Jvm.MethodName)) ∈ lw_all := lw_g (lw_at lw_m1 76 rfl) rfl
theorem q113 : (Jvm.Cond.static ({ cls := "FsmReducer", name := "isInput", desc := "(I)Z" } : Jvm.MethodName)) ∈ lw_all := lw_g (lw_at lw_m1 77 rfl) rfl
theorem q114 : (Jvm.Cond.code ({ cls := "FsmReducer", name := "isInput", desc := "(I)Z" } : Jvm.MethodName) prog_1_method_19_code (1 : Nat) (Option.some Jvm.ClassFile.FieldType.boolean)) ∈ lw_all := lw_g (lw_at lw_m1 78 rfl) rfl
theorem q116 : (Jvm.Cond.instanceMethod ({ cls := "FsmReducer", name := "entry", desc := "(II)I" } : Jvm.MethodName)) ∈ lw_all := lw_g (lw_at lw_m1 80 rfl) rfl
theorem q117 : (Jvm.Cond.selects "FsmReducer" ({ cls := "FsmReducer", name := "entry", desc := "(II)I" } : Jvm.MethodName) ({ cls := "FsmReducer", name := "entry", desc := "(II)I" } : Jvm.MethodName)) ∈ lw_all := lw_g (lw_at lw_m1 81 rfl) rfl
theorem q118 : (Jvm.Cond.code ({ cls := "FsmReducer", name := "entry", desc := "(II)I" } : Jvm.MethodName) prog_1_method_4_code (3 : Nat) (Option.some Jvm.ClassFile.FieldType.int)) ∈ lw_all := lw_g (lw_at lw_m1 82 rfl) rfl
theorem q120 : (Jvm.Cond.instanceMethod ({ cls := "FsmReducer", name := "compatible", desc := "(II)I" } : Jvm.MethodName)) ∈ lw_all := lw_g (lw_at lw_m1 84 rfl) rfl
theorem q121 : (Jvm.Cond.selects "FsmReducer" ({ cls := "FsmReducer", name := "compatible", desc := "(II)I" } : Jvm.MethodName) ({ cls := "FsmReducer", name := "compatible", desc := "(II)I" } : Jvm.MethodName)) ∈ lw_all := lw_g (lw_at lw_m1 85 rfl) rfl
theorem q122 : (Jvm.Cond.code ({ cls := "FsmReducer", name := "compatible", desc := "(II)I" } : Jvm.MethodName) prog_1_method_5_code (3 : Nat) (Option.some Jvm.ClassFile.FieldType.int)) ∈ lw_all := lw_g (lw_at lw_m1 86 rfl) rfl
theorem q123 : (Jvm.Cond.methodLink "FsmReducer" (58 : Nat) ({ cls := "FsmReducer", name := "refresh", desc := "()V" } : Jvm.MethodName)) ∈ lw_all := lw_g (lw_at lw_m1 87 rfl) rfl
theorem q124 : (Jvm.Cond.privateMethod ({ cls := "FsmReducer", name := "refresh", desc := "()V" } : Jvm.MethodName)) ∈ lw_tbl := lw_at lw_m1 88 rfl
theorem q125 : (Jvm.Cond.instanceMethod ({ cls := "FsmReducer", name := "refresh", desc := "()V" } : Jvm.MethodName)) ∈ lw_all := lw_g (lw_at lw_m1 89 rfl) rfl
theorem q126 : (Jvm.Cond.code ({ cls := "FsmReducer", name := "refresh", desc := "()V" } : Jvm.MethodName) prog_1_method_24_code (2 : Nat) (Option.none : Option Jvm.ClassFile.FieldType)) ∈ lw_all := lw_g (lw_at lw_m1 90 rfl) rfl
theorem q127 : (Jvm.Cond.methodLink "FsmReducer" (97 : Nat) ({ cls := "FsmReducer", name := "levelPairs", desc := "()V" } : Jvm.MethodName)) ∈ lw_all := lw_g (lw_at lw_m1 91 rfl) rfl
theorem q128 : (Jvm.Cond.privateMethod ({ cls := "FsmReducer", name := "levelPairs", desc := "()V" } : Jvm.MethodName)) ∈ lw_tbl := lw_at lw_m1 92 rfl
theorem q129 : (Jvm.Cond.instanceMethod ({ cls := "FsmReducer", name := "levelPairs", desc := "()V" } : Jvm.MethodName)) ∈ lw_all := lw_g (lw_at lw_m1 93 rfl) rfl
theorem q130 : (Jvm.Cond.code ({ cls := "FsmReducer", name := "levelPairs", desc := "()V" } : Jvm.MethodName) prog_1_method_26_code (5 : Nat) (Option.none : Option Jvm.ClassFile.FieldType)) ∈ lw_all := lw_g (lw_at lw_m1 94 rfl) rfl
theorem q131 : (Jvm.Cond.methodLink "FsmReducer" (61 : Nat) ({ cls := "FsmReducer", name := "splits", desc := "(IIII)Z" } : Jvm.MethodName)) ∈ lw_all := lw_g (lw_at lw_m1 95 rfl) rfl
theorem q132 : (Jvm.Cond.privateMethod ({ cls := "FsmReducer", name := "splits", desc := "(IIII)Z" } : Jvm.MethodName)) ∈ lw_tbl := lw_at lw_m1 96 rfl
theorem q133 : (Jvm.Cond.instanceMethod ({ cls := "FsmReducer", name := "splits", desc := "(IIII)Z" } : Jvm.MethodName)) ∈ lw_all := lw_g (lw_at lw_m1 97 rfl) rfl
theorem q134 : (Jvm.Cond.code ({ cls := "FsmReducer", name := "splits", desc := "(IIII)Z" } : Jvm.MethodName) prog_1_method_25_code (7 : Nat) (Option.some Jvm.ClassFile.FieldType.boolean)) ∈ lw_all := lw_g (lw_at lw_m1 98 rfl) rfl
theorem q135 : (Jvm.Cond.methodLink "FsmReducer" (94 : Nat) ({ cls := "FsmReducer", name := "output", desc := "(II)I" } : Jvm.MethodName)) ∈ lw_all := lw_g (lw_at lw_m1 99 rfl) rfl
theorem q136 : (Jvm.Cond.privateMethod ({ cls := "FsmReducer", name := "output", desc := "(II)I" } : Jvm.MethodName)) ∈ lw_tbl := lw_at lw_m1 100 rfl
theorem q137 : (Jvm.Cond.instanceMethod ({ cls := "FsmReducer", name := "output", desc := "(II)I" } : Jvm.MethodName)) ∈ lw_all := lw_g (lw_at lw_m1 101 rfl) rfl
theorem q138 : (Jvm.Cond.code ({ cls := "FsmReducer", name := "output", desc := "(II)I" } : Jvm.MethodName) prog_1_method_22_code (3 : Nat) (Option.some Jvm.ClassFile.FieldType.int)) ∈ lw_all := lw_g (lw_at lw_m1 102 rfl) rfl
theorem q139 : (Jvm.Cond.methodLink "FsmReducer" (65 : Nat) ({ cls := "FsmReducer", name := "next", desc := "(II)I" } : Jvm.MethodName)) ∈ lw_all := lw_g (lw_at lw_m1 103 rfl) rfl
theorem q140 : (Jvm.Cond.privateMethod ({ cls := "FsmReducer", name := "next", desc := "(II)I" } : Jvm.MethodName)) ∈ lw_tbl := lw_at lw_m1 104 rfl
theorem q141 : (Jvm.Cond.instanceMethod ({ cls := "FsmReducer", name := "next", desc := "(II)I" } : Jvm.MethodName)) ∈ lw_all := lw_g (lw_at lw_m1 105 rfl) rfl
theorem q142 : (Jvm.Cond.code ({ cls := "FsmReducer", name := "next", desc := "(II)I" } : Jvm.MethodName) prog_1_method_21_code (3 : Nat) (Option.some Jvm.ClassFile.FieldType.int)) ∈ lw_all := lw_g (lw_at lw_m1 106 rfl) rfl
theorem q143 : (Jvm.Cond.methodLink "FsmReducer" (100 : Nat) ({ cls := "FsmReducer", name := "listSets", desc := "()V" } : Jvm.MethodName)) ∈ lw_all := lw_g (lw_at lw_m1 107 rfl) rfl
theorem q144 : (Jvm.Cond.privateMethod ({ cls := "FsmReducer", name := "listSets", desc := "()V" } : Jvm.MethodName)) ∈ lw_tbl := lw_at lw_m1 108 rfl
theorem q145 : (Jvm.Cond.instanceMethod ({ cls := "FsmReducer", name := "listSets", desc := "()V" } : Jvm.MethodName)) ∈ lw_all := lw_g (lw_at lw_m1 109 rfl) rfl
theorem q146 : (Jvm.Cond.code ({ cls := "FsmReducer", name := "listSets", desc := "()V" } : Jvm.MethodName) prog_1_method_28_code (2 : Nat) (Option.none : Option Jvm.ClassFile.FieldType)) ∈ lw_all := lw_g (lw_at lw_m1 110 rfl) rfl
theorem q147 : (Jvm.Cond.methodLink "FsmReducer" (72 : Nat) ({ cls := "FsmReducer", name := "holdsTogether", desc := "(I)Z" } : Jvm.MethodName)) ∈ lw_all := lw_g (lw_at lw_m1 111 rfl) rfl
theorem q148 : (Jvm.Cond.privateMethod ({ cls := "FsmReducer", name := "holdsTogether", desc := "(I)Z" } : Jvm.MethodName)) ∈ lw_tbl := lw_at lw_m1 112 rfl
theorem q149 : (Jvm.Cond.instanceMethod ({ cls := "FsmReducer", name := "holdsTogether", desc := "(I)Z" } : Jvm.MethodName)) ∈ lw_all := lw_g (lw_at lw_m1 113 rfl) rfl
theorem q150 : (Jvm.Cond.code ({ cls := "FsmReducer", name := "holdsTogether", desc := "(I)Z" } : Jvm.MethodName) prog_1_method_27_code (5 : Nat) (Option.some Jvm.ClassFile.FieldType.boolean)) ∈ lw_all := lw_g (lw_at lw_m1 114 rfl) rfl
theorem q151 : (Jvm.Cond.methodLink "FsmReducer" (103 : Nat) ({ cls := "FsmReducer", name := "listLargest", desc := "()V" } : Jvm.MethodName)) ∈ lw_all := lw_g (lw_at lw_m1 115 rfl) rfl
theorem q152 : (Jvm.Cond.privateMethod ({ cls := "FsmReducer", name := "listLargest", desc := "()V" } : Jvm.MethodName)) ∈ lw_tbl := lw_at lw_m1 116 rfl
theorem q153 : (Jvm.Cond.instanceMethod ({ cls := "FsmReducer", name := "listLargest", desc := "()V" } : Jvm.MethodName)) ∈ lw_all := lw_g (lw_at lw_m1 117 rfl) rfl
theorem q154 : (Jvm.Cond.code ({ cls := "FsmReducer", name := "listLargest", desc := "()V" } : Jvm.MethodName) prog_1_method_29_code (4 : Nat) (Option.none : Option Jvm.ClassFile.FieldType)) ∈ lw_all := lw_g (lw_at lw_m1 118 rfl) rfl
theorem q155 : (Jvm.Cond.methodLink "FsmReducer" (106 : Nat) ({ cls := "FsmReducer", name := "findCover", desc := "(I)Z" } : Jvm.MethodName)) ∈ lw_all := lw_g (lw_at lw_m1 119 rfl) rfl
theorem q156 : (Jvm.Cond.privateMethod ({ cls := "FsmReducer", name := "findCover", desc := "(I)Z" } : Jvm.MethodName)) ∈ lw_tbl := lw_at lw_m1 120 rfl
theorem q157 : (Jvm.Cond.instanceMethod ({ cls := "FsmReducer", name := "findCover", desc := "(I)Z" } : Jvm.MethodName)) ∈ lw_all := lw_g (lw_at lw_m1 121 rfl) rfl
theorem q158 : (Jvm.Cond.code ({ cls := "FsmReducer", name := "findCover", desc := "(I)Z" } : Jvm.MethodName) prog_1_method_31_code (6 : Nat) (Option.some Jvm.ClassFile.FieldType.boolean)) ∈ lw_all := lw_g (lw_at lw_m1 122 rfl) rfl
theorem q159 : (Jvm.Cond.constant "FsmReducer" (115 : Nat) (500000 : Int32)) ∈ lw_all := lw_g (lw_at lw_m1 123 rfl) rfl
theorem q160 : (Jvm.Cond.methodLink "FsmReducer" (116 : Nat) ({ cls := "FsmReducer", name := "isClosed", desc := "(I)Z" } : Jvm.MethodName)) ∈ lw_all := lw_g (lw_at lw_m1 124 rfl) rfl
theorem q161 : (Jvm.Cond.privateMethod ({ cls := "FsmReducer", name := "isClosed", desc := "(I)Z" } : Jvm.MethodName)) ∈ lw_tbl := lw_at lw_m1 125 rfl
theorem q162 : (Jvm.Cond.instanceMethod ({ cls := "FsmReducer", name := "isClosed", desc := "(I)Z" } : Jvm.MethodName)) ∈ lw_all := lw_g (lw_at lw_m1 126 rfl) rfl
theorem q163 : (Jvm.Cond.code ({ cls := "FsmReducer", name := "isClosed", desc := "(I)Z" } : Jvm.MethodName) prog_1_method_32_code (4 : Nat) (Option.some Jvm.ClassFile.FieldType.boolean)) ∈ lw_all := lw_g (lw_at lw_m1 127 rfl) rfl
theorem q164 : (Jvm.Cond.methodLink "FsmReducer" (78 : Nat) ({ cls := "FsmReducer", name := "image", desc := "(II)I" } : Jvm.MethodName)) ∈ lw_all := lw_g (lw_at lw_m1 128 rfl) rfl
theorem q165 : (Jvm.Cond.privateMethod ({ cls := "FsmReducer", name := "image", desc := "(II)I" } : Jvm.MethodName)) ∈ lw_tbl := lw_at lw_m1 129 rfl
theorem q166 : (Jvm.Cond.instanceMethod ({ cls := "FsmReducer", name := "image", desc := "(II)I" } : Jvm.MethodName)) ∈ lw_all := lw_g (lw_at lw_m1 130 rfl) rfl
theorem q167 : (Jvm.Cond.code ({ cls := "FsmReducer", name := "image", desc := "(II)I" } : Jvm.MethodName) prog_1_method_30_code (6 : Nat) (Option.some Jvm.ClassFile.FieldType.int)) ∈ lw_all := lw_g (lw_at lw_m1 131 rfl) rfl
theorem q168 : (Jvm.Cond.methodLink "FsmReducer" (87 : Nat) ({ cls := "FsmReducer", name := "firstWith", desc := "(I)I" } : Jvm.MethodName)) ∈ lw_all := lw_g (lw_at lw_m1 132 rfl) rfl
theorem q169 : (Jvm.Cond.privateMethod ({ cls := "FsmReducer", name := "firstWith", desc := "(I)I" } : Jvm.MethodName)) ∈ lw_tbl := lw_at lw_m1 133 rfl
theorem q170 : (Jvm.Cond.instanceMethod ({ cls := "FsmReducer", name := "firstWith", desc := "(I)I" } : Jvm.MethodName)) ∈ lw_all := lw_g (lw_at lw_m1 134 rfl) rfl
theorem q171 : (Jvm.Cond.code ({ cls := "FsmReducer", name := "firstWith", desc := "(I)I" } : Jvm.MethodName) prog_1_method_33_code (3 : Nat) (Option.some Jvm.ClassFile.FieldType.int)) ∈ lw_all := lw_g (lw_at lw_m1 135 rfl) rfl
theorem q172 : (Jvm.Cond.methodLink "FsmReducer" (109 : Nat) ({ cls := "FsmReducer", name := "buildClasses", desc := "()V" } : Jvm.MethodName)) ∈ lw_all := lw_g (lw_at lw_m1 136 rfl) rfl
theorem q173 : (Jvm.Cond.privateMethod ({ cls := "FsmReducer", name := "buildClasses", desc := "()V" } : Jvm.MethodName)) ∈ lw_tbl := lw_at lw_m1 137 rfl
theorem q174 : (Jvm.Cond.instanceMethod ({ cls := "FsmReducer", name := "buildClasses", desc := "()V" } : Jvm.MethodName)) ∈ lw_all := lw_g (lw_at lw_m1 138 rfl) rfl
theorem q175 : (Jvm.Cond.code ({ cls := "FsmReducer", name := "buildClasses", desc := "()V" } : Jvm.MethodName) prog_1_method_34_code (3 : Nat) (Option.none : Option Jvm.ClassFile.FieldType)) ∈ lw_all := lw_g (lw_at lw_m1 139 rfl) rfl
theorem q176 : (Jvm.Cond.methodLink "FsmReducer" (119 : Nat) ({ cls := "FsmReducer", name := "sharedOutput", desc := "(II)I" } : Jvm.MethodName)) ∈ lw_all := lw_g (lw_at lw_m1 140 rfl) rfl
theorem q177 : (Jvm.Cond.privateMethod ({ cls := "FsmReducer", name := "sharedOutput", desc := "(II)I" } : Jvm.MethodName)) ∈ lw_tbl := lw_at lw_m1 141 rfl
theorem q178 : (Jvm.Cond.instanceMethod ({ cls := "FsmReducer", name := "sharedOutput", desc := "(II)I" } : Jvm.MethodName)) ∈ lw_all := lw_g (lw_at lw_m1 142 rfl) rfl
theorem q179 : (Jvm.Cond.code ({ cls := "FsmReducer", name := "sharedOutput", desc := "(II)I" } : Jvm.MethodName) prog_1_method_35_code (5 : Nat) (Option.some Jvm.ClassFile.FieldType.int)) ∈ lw_all := lw_g (lw_at lw_m1 143 rfl) rfl
theorem q181 : (Jvm.Cond.instanceMethod ({ cls := "FsmReducer", name := "splitLength", desc := "(II)I" } : Jvm.MethodName)) ∈ lw_all := lw_g (lw_at lw_m1 145 rfl) rfl
theorem q182 : (Jvm.Cond.selects "FsmReducer" ({ cls := "FsmReducer", name := "splitLength", desc := "(II)I" } : Jvm.MethodName) ({ cls := "FsmReducer", name := "splitLength", desc := "(II)I" } : Jvm.MethodName)) ∈ lw_all := lw_g (lw_at lw_m1 146 rfl) rfl
theorem q183 : (Jvm.Cond.code ({ cls := "FsmReducer", name := "splitLength", desc := "(II)I" } : Jvm.MethodName) prog_1_method_6_code (4 : Nat) (Option.some Jvm.ClassFile.FieldType.int)) ∈ lw_all := lw_g (lw_at lw_m1 147 rfl) rfl
theorem q185 : (Jvm.Cond.instanceMethod ({ cls := "FsmReducer", name := "splitWord", desc := "(II)I" } : Jvm.MethodName)) ∈ lw_all := lw_g (lw_at lw_m1 149 rfl) rfl
theorem q186 : (Jvm.Cond.selects "FsmReducer" ({ cls := "FsmReducer", name := "splitWord", desc := "(II)I" } : Jvm.MethodName) ({ cls := "FsmReducer", name := "splitWord", desc := "(II)I" } : Jvm.MethodName)) ∈ lw_all := lw_g (lw_at lw_m1 150 rfl) rfl
theorem q187 : (Jvm.Cond.code ({ cls := "FsmReducer", name := "splitWord", desc := "(II)I" } : Jvm.MethodName) prog_1_method_7_code (9 : Nat) (Option.some Jvm.ClassFile.FieldType.int)) ∈ lw_all := lw_g (lw_at lw_m1 151 rfl) rfl
theorem q189 : (Jvm.Cond.instanceMethod ({ cls := "FsmReducer", name := "compatibleSet", desc := "(I)I" } : Jvm.MethodName)) ∈ lw_all := lw_g (lw_at lw_m1 153 rfl) rfl
theorem q190 : (Jvm.Cond.selects "FsmReducer" ({ cls := "FsmReducer", name := "compatibleSet", desc := "(I)I" } : Jvm.MethodName) ({ cls := "FsmReducer", name := "compatibleSet", desc := "(I)I" } : Jvm.MethodName)) ∈ lw_all := lw_g (lw_at lw_m1 154 rfl) rfl
theorem q191 : (Jvm.Cond.code ({ cls := "FsmReducer", name := "compatibleSet", desc := "(I)I" } : Jvm.MethodName) prog_1_method_8_code (2 : Nat) (Option.some Jvm.ClassFile.FieldType.int)) ∈ lw_all := lw_g (lw_at lw_m1 155 rfl) rfl
theorem q192 : (Jvm.Cond.methodLink "FsmReducer" (69 : Nat) ({ cls := "FsmReducer", name := "isSet", desc := "(I)Z" } : Jvm.MethodName)) ∈ lw_all := lw_g (lw_at lw_m1 156 rfl) rfl
theorem q193 : (Jvm.Cond.privateMethod ({ cls := "FsmReducer", name := "isSet", desc := "(I)Z" } : Jvm.MethodName)) ∈ lw_tbl := lw_at lw_m1 157 rfl
theorem q194 : (Jvm.Cond.instanceMethod ({ cls := "FsmReducer", name := "isSet", desc := "(I)Z" } : Jvm.MethodName)) ∈ lw_all := lw_g (lw_at lw_m1 158 rfl) rfl
theorem q195 : (Jvm.Cond.code ({ cls := "FsmReducer", name := "isSet", desc := "(I)Z" } : Jvm.MethodName) prog_1_method_20_code (2 : Nat) (Option.some Jvm.ClassFile.FieldType.boolean)) ∈ lw_all := lw_g (lw_at lw_m1 159 rfl) rfl
theorem q197 : (Jvm.Cond.instanceMethod ({ cls := "FsmReducer", name := "maximals", desc := "()I" } : Jvm.MethodName)) ∈ lw_all := lw_g (lw_at lw_m1 161 rfl) rfl
theorem q198 : (Jvm.Cond.selects "FsmReducer" ({ cls := "FsmReducer", name := "maximals", desc := "()I" } : Jvm.MethodName) ({ cls := "FsmReducer", name := "maximals", desc := "()I" } : Jvm.MethodName)) ∈ lw_all := lw_g (lw_at lw_m1 162 rfl) rfl
theorem q199 : (Jvm.Cond.code ({ cls := "FsmReducer", name := "maximals", desc := "()I" } : Jvm.MethodName) prog_1_method_9_code (1 : Nat) (Option.some Jvm.ClassFile.FieldType.int)) ∈ lw_all := lw_g (lw_at lw_m1 163 rfl) rfl
theorem q201 : (Jvm.Cond.instanceMethod ({ cls := "FsmReducer", name := "maximal", desc := "(I)I" } : Jvm.MethodName)) ∈ lw_all := lw_g (lw_at lw_m1 165 rfl) rfl
theorem q202 : (Jvm.Cond.selects "FsmReducer" ({ cls := "FsmReducer", name := "maximal", desc := "(I)I" } : Jvm.MethodName) ({ cls := "FsmReducer", name := "maximal", desc := "(I)I" } : Jvm.MethodName)) ∈ lw_all := lw_g (lw_at lw_m1 166 rfl) rfl
theorem q203 : (Jvm.Cond.code ({ cls := "FsmReducer", name := "maximal", desc := "(I)I" } : Jvm.MethodName) prog_1_method_10_code (2 : Nat) (Option.some Jvm.ClassFile.FieldType.int)) ∈ lw_all := lw_g (lw_at lw_m1 167 rfl) rfl
theorem q205 : (Jvm.Cond.instanceMethod ({ cls := "FsmReducer", name := "implied", desc := "(II)I" } : Jvm.MethodName)) ∈ lw_all := lw_g (lw_at lw_m1 169 rfl) rfl
theorem q206 : (Jvm.Cond.selects "FsmReducer" ({ cls := "FsmReducer", name := "implied", desc := "(II)I" } : Jvm.MethodName) ({ cls := "FsmReducer", name := "implied", desc := "(II)I" } : Jvm.MethodName)) ∈ lw_all := lw_g (lw_at lw_m1 170 rfl) rfl
theorem q207 : (Jvm.Cond.code ({ cls := "FsmReducer", name := "implied", desc := "(II)I" } : Jvm.MethodName) prog_1_method_11_code (3 : Nat) (Option.some Jvm.ClassFile.FieldType.int)) ∈ lw_all := lw_g (lw_at lw_m1 171 rfl) rfl
theorem q209 : (Jvm.Cond.instanceMethod ({ cls := "FsmReducer", name := "coverSize", desc := "()I" } : Jvm.MethodName)) ∈ lw_all := lw_g (lw_at lw_m1 173 rfl) rfl
theorem q210 : (Jvm.Cond.selects "FsmReducer" ({ cls := "FsmReducer", name := "coverSize", desc := "()I" } : Jvm.MethodName) ({ cls := "FsmReducer", name := "coverSize", desc := "()I" } : Jvm.MethodName)) ∈ lw_all := lw_g (lw_at lw_m1 174 rfl) rfl
theorem q211 : (Jvm.Cond.code ({ cls := "FsmReducer", name := "coverSize", desc := "()I" } : Jvm.MethodName) prog_1_method_12_code (1 : Nat) (Option.some Jvm.ClassFile.FieldType.int)) ∈ lw_all := lw_g (lw_at lw_m1 175 rfl) rfl
theorem q213 : (Jvm.Cond.instanceMethod ({ cls := "FsmReducer", name := "coverSet", desc := "(I)I" } : Jvm.MethodName)) ∈ lw_all := lw_g (lw_at lw_m1 177 rfl) rfl
theorem q214 : (Jvm.Cond.selects "FsmReducer" ({ cls := "FsmReducer", name := "coverSet", desc := "(I)I" } : Jvm.MethodName) ({ cls := "FsmReducer", name := "coverSet", desc := "(I)I" } : Jvm.MethodName)) ∈ lw_all := lw_g (lw_at lw_m1 178 rfl) rfl
theorem q215 : (Jvm.Cond.code ({ cls := "FsmReducer", name := "coverSet", desc := "(I)I" } : Jvm.MethodName) prog_1_method_13_code (2 : Nat) (Option.some Jvm.ClassFile.FieldType.int)) ∈ lw_all := lw_g (lw_at lw_m1 179 rfl) rfl
theorem q217 : (Jvm.Cond.instanceMethod ({ cls := "FsmReducer", name := "isCover", desc := "(III)I" } : Jvm.MethodName)) ∈ lw_all := lw_g (lw_at lw_m1 181 rfl) rfl
theorem q218 : (Jvm.Cond.selects "FsmReducer" ({ cls := "FsmReducer", name := "isCover", desc := "(III)I" } : Jvm.MethodName) ({ cls := "FsmReducer", name := "isCover", desc := "(III)I" } : Jvm.MethodName)) ∈ lw_all := lw_g (lw_at lw_m1 182 rfl) rfl
theorem q219 : (Jvm.Cond.code ({ cls := "FsmReducer", name := "isCover", desc := "(III)I" } : Jvm.MethodName) prog_1_method_14_code (10 : Nat) (Option.some Jvm.ClassFile.FieldType.int)) ∈ lw_all := lw_g (lw_at lw_m1 183 rfl) rfl
theorem q220 : (Jvm.Cond.methodLink "FsmReducer" (84 : Nat) ({ cls := "FsmReducer", name := "inOne", desc := "(IIII)Z" } : Jvm.MethodName)) ∈ lw_all := lw_g (lw_at lw_m1 184 rfl) rfl
theorem q221 : (Jvm.Cond.static ({ cls := "FsmReducer", name := "inOne", desc := "(IIII)Z" } : Jvm.MethodName)) ∈ lw_all := lw_g (lw_at lw_m1 185 rfl) rfl
theorem q222 : (Jvm.Cond.code ({ cls := "FsmReducer", name := "inOne", desc := "(IIII)Z" } : Jvm.MethodName) prog_1_method_23_code (4 : Nat) (Option.some Jvm.ClassFile.FieldType.boolean)) ∈ lw_all := lw_g (lw_at lw_m1 186 rfl) rfl
theorem q224 : (Jvm.Cond.instanceMethod ({ cls := "FsmReducer", name := "restart", desc := "()V" } : Jvm.MethodName)) ∈ lw_all := lw_g (lw_at lw_m1 188 rfl) rfl
theorem q225 : (Jvm.Cond.selects "FsmReducer" ({ cls := "FsmReducer", name := "restart", desc := "()V" } : Jvm.MethodName) ({ cls := "FsmReducer", name := "restart", desc := "()V" } : Jvm.MethodName)) ∈ lw_all := lw_g (lw_at lw_m1 189 rfl) rfl
theorem q226 : (Jvm.Cond.code ({ cls := "FsmReducer", name := "restart", desc := "()V" } : Jvm.MethodName) prog_1_method_15_code (1 : Nat) (Option.none : Option Jvm.ClassFile.FieldType)) ∈ lw_all := lw_g (lw_at lw_m1 190 rfl) rfl
theorem q228 : (Jvm.Cond.instanceMethod ({ cls := "FsmReducer", name := "read", desc := "(I)I" } : Jvm.MethodName)) ∈ lw_all := lw_g (lw_at lw_m1 192 rfl) rfl
theorem q229 : (Jvm.Cond.selects "FsmReducer" ({ cls := "FsmReducer", name := "read", desc := "(I)I" } : Jvm.MethodName) ({ cls := "FsmReducer", name := "read", desc := "(I)I" } : Jvm.MethodName)) ∈ lw_all := lw_g (lw_at lw_m1 193 rfl) rfl
theorem q230 : (Jvm.Cond.code ({ cls := "FsmReducer", name := "read", desc := "(I)I" } : Jvm.MethodName) prog_1_method_16_code (4 : Nat) (Option.some Jvm.ClassFile.FieldType.int)) ∈ lw_all := lw_g (lw_at lw_m1 194 rfl) rfl
theorem q232 : (Jvm.Cond.instanceMethod ({ cls := "FsmReducer", name := "lost", desc := "()I" } : Jvm.MethodName)) ∈ lw_all := lw_g (lw_at lw_m1 196 rfl) rfl
theorem q233 : (Jvm.Cond.selects "FsmReducer" ({ cls := "FsmReducer", name := "lost", desc := "()I" } : Jvm.MethodName) ({ cls := "FsmReducer", name := "lost", desc := "()I" } : Jvm.MethodName)) ∈ lw_all := lw_g (lw_at lw_m1 197 rfl) rfl
theorem q234 : (Jvm.Cond.code ({ cls := "FsmReducer", name := "lost", desc := "()I" } : Jvm.MethodName) prog_1_method_17_code (1 : Nat) (Option.some Jvm.ClassFile.FieldType.int)) ∈ lw_all := lw_g (lw_at lw_m1 198 rfl) rfl
theorem in_X1 : ∀ w ∈ wsX10, w ∈ lw_all := lw_in wsX10 [64, 66, 68, 70, 72, 74, 76, 78, 80, 82, 84, 86, 88, 90, 92, 94, 96] (by decide +kernel) (by decide +kernel)
end
section
/-! FsmReducerModel -/
set_option maxRecDepth 100000
def RX2 : String := "FsmReducerModel"
def TX2 : u_T := fun k => match k with
  | 0 => ("FsmReducerModel", "n", "I", false)
  | 1 => ("FsmReducerModel", "entry", "[I", false)
  | 2 => ("FsmReducerModel", "at", "I", false)
  | 3 => ("FsmReducerModel", "fits", "[Z", false)
  | 4 => ("FsmReducerModel", "chosen", "[I", false)
  | _ => ("FsmReducerModel", "size", "I", false)
def tyX2 : Nat → FieldType := fun k => match k with
  | 0 => .int
  | 1 => .array .int
  | 2 => .int
  | 3 => .array .boolean
  | 4 => .array .int
  | _ => .int
abbrev wsX20 : List Cond := u_ws RX2 TX2 6
theorem nmX2 : ∀ a, a < 6 → ∀ b, b < 6 → a ≠ b → (TX2 a).2.1 ≠ (TX2 b).2.1 := by decide +kernel
theorem tyX2_ok : ∀ k, k < 6 → parseFieldDescriptor (TX2 k).2.2.1 = some (tyX2 k) := by decide +kernel
abbrev cX2_init : ByteArray := prog_3_method_1_code
def yX2_init : MethodName := ⟨RX2, "<init>", "(I)V"⟩
theorem dX2_init_0 : decode cX2_init 0 = .ok (.aload_n 0, 1) := by decide +kernel
theorem dX2_init_1 : decode cX2_init 1 = .ok (.invokespecial 1, 3) := by decide +kernel
theorem dX2_init_4 : decode cX2_init 4 = .ok (.aload_n 0, 1) := by decide +kernel
theorem dX2_init_5 : decode cX2_init 5 = .ok (.bipush 10, 2) := by decide +kernel
theorem dX2_init_7 : decode cX2_init 7 = .ok (.newarray .int, 2) := by decide +kernel
theorem dX2_init_9 : decode cX2_init 9 = .ok (.putfield 7, 3) := by decide +kernel
theorem dX2_init_12 : decode cX2_init 12 = .ok (.aload_n 0, 1) := by decide +kernel
theorem dX2_init_13 : decode cX2_init 13 = .ok (.bipush 64, 2) := by decide +kernel
theorem dX2_init_15 : decode cX2_init 15 = .ok (.newarray .boolean, 2) := by decide +kernel
theorem dX2_init_17 : decode cX2_init 17 = .ok (.putfield 13, 3) := by decide +kernel
theorem dX2_init_20 : decode cX2_init 20 = .ok (.aload_n 0, 1) := by decide +kernel
theorem dX2_init_21 : decode cX2_init 21 = .ok (.iconst 5, 1) := by decide +kernel
theorem dX2_init_22 : decode cX2_init 22 = .ok (.newarray .int, 2) := by decide +kernel
theorem dX2_init_24 : decode cX2_init 24 = .ok (.putfield 17, 3) := by decide +kernel
theorem dX2_init_27 : decode cX2_init 27 = .ok (.aload_n 0, 1) := by decide +kernel
theorem dX2_init_28 : decode cX2_init 28 = .ok (.iload_n 1, 1) := by decide +kernel
theorem dX2_init_29 : decode cX2_init 29 = .ok (.iconst 2, 1) := by decide +kernel
theorem dX2_init_30 : decode cX2_init 30 = .ok (.if_icmp .ge 7, 3) := by decide +kernel
theorem dX2_init_33 : decode cX2_init 33 = .ok (.iconst 2, 1) := by decide +kernel
theorem dX2_init_34 : decode cX2_init 34 = .ok (.goto 13, 3) := by decide +kernel
theorem dX2_init_37 : decode cX2_init 37 = .ok (.iload_n 1, 1) := by decide +kernel
theorem dX2_init_38 : decode cX2_init 38 = .ok (.iconst 5, 1) := by decide +kernel
theorem dX2_init_39 : decode cX2_init 39 = .ok (.if_icmp .le 7, 3) := by decide +kernel
theorem dX2_init_42 : decode cX2_init 42 = .ok (.iconst 5, 1) := by decide +kernel
theorem dX2_init_43 : decode cX2_init 43 = .ok (.goto 4, 3) := by decide +kernel
theorem dX2_init_46 : decode cX2_init 46 = .ok (.iload_n 1, 1) := by decide +kernel
theorem dX2_init_47 : decode cX2_init 47 = .ok (.putfield 20, 3) := by decide +kernel
theorem dX2_init_50 : decode cX2_init 50 = .ok (.return_, 1) := by decide +kernel
abbrev cX2_states : ByteArray := prog_3_method_2_code
def yX2_states : MethodName := ⟨RX2, "states", "()I"⟩
theorem dX2_states_0 : decode cX2_states 0 = .ok (.aload_n 0, 1) := by decide +kernel
theorem dX2_states_1 : decode cX2_states 1 = .ok (.getfield 20, 3) := by decide +kernel
theorem dX2_states_4 : decode cX2_states 4 = .ok (.ireturn, 1) := by decide +kernel
abbrev cX2_set : ByteArray := prog_3_method_8_code
def yX2_set : MethodName := ⟨RX2, "set", "(III)I"⟩
theorem dX2_set_0 : decode cX2_set 0 = .ok (.aload_n 0, 1) := by decide +kernel
theorem dX2_set_1 : decode cX2_set 1 = .ok (.iload_n 1, 1) := by decide +kernel
theorem dX2_set_2 : decode cX2_set 2 = .ok (.invokevirtual 24, 3) := by decide +kernel
theorem dX2_set_5 : decode cX2_set 5 = .ok (.ifCond .eq 5, 3) := by decide +kernel
theorem dX2_set_8 : decode cX2_set 8 = .ok (.iconst (-1), 1) := by decide +kernel
theorem dX2_set_9 : decode cX2_set 9 = .ok (.ireturn, 1) := by decide +kernel
theorem dX2_set_10 : decode cX2_set 10 = .ok (.aload_n 0, 1) := by decide +kernel
theorem dX2_set_11 : decode cX2_set 11 = .ok (.iload_n 2, 1) := by decide +kernel
theorem dX2_set_12 : decode cX2_set 12 = .ok (.invokevirtual 28, 3) := by decide +kernel
theorem dX2_set_15 : decode cX2_set 15 = .ok (.ifCond .eq 6, 3) := by decide +kernel
theorem dX2_set_18 : decode cX2_set 18 = .ok (.bipush (-2), 2) := by decide +kernel
theorem dX2_set_20 : decode cX2_set 20 = .ok (.ireturn, 1) := by decide +kernel
theorem dX2_set_21 : decode cX2_set 21 = .ok (.iload_n 3, 1) := by decide +kernel
theorem dX2_set_22 : decode cX2_set 22 = .ok (.ifCond .lt 17, 3) := by decide +kernel
theorem dX2_set_25 : decode cX2_set 25 = .ok (.iload_n 3, 1) := by decide +kernel
theorem dX2_set_26 : decode cX2_set 26 = .ok (.iconst 3, 1) := by decide +kernel
theorem dX2_set_27 : decode cX2_set 27 = .ok (.aload_n 0, 1) := by decide +kernel
theorem dX2_set_28 : decode cX2_set 28 = .ok (.getfield 20, 3) := by decide +kernel
theorem dX2_set_31 : decode cX2_set 31 = .ok (.iconst 1, 1) := by decide +kernel
theorem dX2_set_32 : decode cX2_set 32 = .ok (.iadd, 1) := by decide +kernel
theorem dX2_set_33 : decode cX2_set 33 = .ok (.imul, 1) := by decide +kernel
theorem dX2_set_34 : decode cX2_set 34 = .ok (.iconst 1, 1) := by decide +kernel
theorem dX2_set_35 : decode cX2_set 35 = .ok (.isub, 1) := by decide +kernel
theorem dX2_set_36 : decode cX2_set 36 = .ok (.if_icmp .le 6, 3) := by decide +kernel
theorem dX2_set_39 : decode cX2_set 39 = .ok (.bipush (-3), 2) := by decide +kernel
theorem dX2_set_41 : decode cX2_set 41 = .ok (.ireturn, 1) := by decide +kernel
theorem dX2_set_42 : decode cX2_set 42 = .ok (.aload_n 0, 1) := by decide +kernel
theorem dX2_set_43 : decode cX2_set 43 = .ok (.getfield 7, 3) := by decide +kernel
theorem dX2_set_46 : decode cX2_set 46 = .ok (.iconst 2, 1) := by decide +kernel
theorem dX2_set_47 : decode cX2_set 47 = .ok (.iload_n 1, 1) := by decide +kernel
theorem dX2_set_48 : decode cX2_set 48 = .ok (.imul, 1) := by decide +kernel
theorem dX2_set_49 : decode cX2_set 49 = .ok (.iload_n 2, 1) := by decide +kernel
theorem dX2_set_50 : decode cX2_set 50 = .ok (.iadd, 1) := by decide +kernel
theorem dX2_set_51 : decode cX2_set 51 = .ok (.iaload, 1) := by decide +kernel
theorem dX2_set_52 : decode cX2_set 52 = .ok (.istore 4, 2) := by decide +kernel
theorem dX2_set_54 : decode cX2_set 54 = .ok (.aload_n 0, 1) := by decide +kernel
theorem dX2_set_55 : decode cX2_set 55 = .ok (.getfield 7, 3) := by decide +kernel
theorem dX2_set_58 : decode cX2_set 58 = .ok (.iconst 2, 1) := by decide +kernel
theorem dX2_set_59 : decode cX2_set 59 = .ok (.iload_n 1, 1) := by decide +kernel
theorem dX2_set_60 : decode cX2_set 60 = .ok (.imul, 1) := by decide +kernel
theorem dX2_set_61 : decode cX2_set 61 = .ok (.iload_n 2, 1) := by decide +kernel
theorem dX2_set_62 : decode cX2_set 62 = .ok (.iadd, 1) := by decide +kernel
theorem dX2_set_63 : decode cX2_set 63 = .ok (.iload_n 3, 1) := by decide +kernel
theorem dX2_set_64 : decode cX2_set 64 = .ok (.iastore, 1) := by decide +kernel
theorem dX2_set_65 : decode cX2_set 65 = .ok (.aload_n 0, 1) := by decide +kernel
theorem dX2_set_66 : decode cX2_set 66 = .ok (.iconst 0, 1) := by decide +kernel
theorem dX2_set_67 : decode cX2_set 67 = .ok (.putfield 31, 3) := by decide +kernel
theorem dX2_set_70 : decode cX2_set 70 = .ok (.iload 4, 2) := by decide +kernel
theorem dX2_set_72 : decode cX2_set 72 = .ok (.ireturn, 1) := by decide +kernel
abbrev cX2_badState : ByteArray := prog_3_method_3_code
def yX2_badState : MethodName := ⟨RX2, "badState", "(I)Z"⟩
theorem dX2_badState_0 : decode cX2_badState 0 = .ok (.iload_n 1, 1) := by decide +kernel
theorem dX2_badState_1 : decode cX2_badState 1 = .ok (.ifCond .lt 16, 3) := by decide +kernel
theorem dX2_badState_4 : decode cX2_badState 4 = .ok (.iload_n 1, 1) := by decide +kernel
theorem dX2_badState_5 : decode cX2_badState 5 = .ok (.aload_n 0, 1) := by decide +kernel
theorem dX2_badState_6 : decode cX2_badState 6 = .ok (.getfield 20, 3) := by decide +kernel
theorem dX2_badState_9 : decode cX2_badState 9 = .ok (.if_icmp .ge 8, 3) := by decide +kernel
theorem dX2_badState_12 : decode cX2_badState 12 = .ok (.iload_n 1, 1) := by decide +kernel
theorem dX2_badState_13 : decode cX2_badState 13 = .ok (.iconst 5, 1) := by decide +kernel
theorem dX2_badState_14 : decode cX2_badState 14 = .ok (.if_icmp .lt 7, 3) := by decide +kernel
theorem dX2_badState_17 : decode cX2_badState 17 = .ok (.iconst 1, 1) := by decide +kernel
theorem dX2_badState_18 : decode cX2_badState 18 = .ok (.goto 4, 3) := by decide +kernel
theorem dX2_badState_21 : decode cX2_badState 21 = .ok (.iconst 0, 1) := by decide +kernel
theorem dX2_badState_22 : decode cX2_badState 22 = .ok (.ireturn, 1) := by decide +kernel
abbrev cX2_badInput : ByteArray := prog_3_method_4_code
def yX2_badInput : MethodName := ⟨RX2, "badInput", "(I)Z"⟩
theorem dX2_badInput_0 : decode cX2_badInput 0 = .ok (.iload_n 1, 1) := by decide +kernel
theorem dX2_badInput_1 : decode cX2_badInput 1 = .ok (.ifCond .lt 8, 3) := by decide +kernel
theorem dX2_badInput_4 : decode cX2_badInput 4 = .ok (.iload_n 1, 1) := by decide +kernel
theorem dX2_badInput_5 : decode cX2_badInput 5 = .ok (.iconst 1, 1) := by decide +kernel
theorem dX2_badInput_6 : decode cX2_badInput 6 = .ok (.if_icmp .le 7, 3) := by decide +kernel
theorem dX2_badInput_9 : decode cX2_badInput 9 = .ok (.iconst 1, 1) := by decide +kernel
theorem dX2_badInput_10 : decode cX2_badInput 10 = .ok (.goto 4, 3) := by decide +kernel
theorem dX2_badInput_13 : decode cX2_badInput 13 = .ok (.iconst 0, 1) := by decide +kernel
theorem dX2_badInput_14 : decode cX2_badInput 14 = .ok (.ireturn, 1) := by decide +kernel
abbrev cX2_entry : ByteArray := prog_3_method_9_code
def yX2_entry : MethodName := ⟨RX2, "entry", "(II)I"⟩
theorem dX2_entry_0 : decode cX2_entry 0 = .ok (.aload_n 0, 1) := by decide +kernel
theorem dX2_entry_1 : decode cX2_entry 1 = .ok (.iload_n 1, 1) := by decide +kernel
theorem dX2_entry_2 : decode cX2_entry 2 = .ok (.invokevirtual 24, 3) := by decide +kernel
theorem dX2_entry_5 : decode cX2_entry 5 = .ok (.ifCond .eq 5, 3) := by decide +kernel
theorem dX2_entry_8 : decode cX2_entry 8 = .ok (.iconst (-1), 1) := by decide +kernel
theorem dX2_entry_9 : decode cX2_entry 9 = .ok (.ireturn, 1) := by decide +kernel
theorem dX2_entry_10 : decode cX2_entry 10 = .ok (.aload_n 0, 1) := by decide +kernel
theorem dX2_entry_11 : decode cX2_entry 11 = .ok (.iload_n 2, 1) := by decide +kernel
theorem dX2_entry_12 : decode cX2_entry 12 = .ok (.invokevirtual 28, 3) := by decide +kernel
theorem dX2_entry_15 : decode cX2_entry 15 = .ok (.ifCond .eq 6, 3) := by decide +kernel
theorem dX2_entry_18 : decode cX2_entry 18 = .ok (.bipush (-2), 2) := by decide +kernel
theorem dX2_entry_20 : decode cX2_entry 20 = .ok (.ireturn, 1) := by decide +kernel
theorem dX2_entry_21 : decode cX2_entry 21 = .ok (.aload_n 0, 1) := by decide +kernel
theorem dX2_entry_22 : decode cX2_entry 22 = .ok (.getfield 7, 3) := by decide +kernel
theorem dX2_entry_25 : decode cX2_entry 25 = .ok (.iconst 2, 1) := by decide +kernel
theorem dX2_entry_26 : decode cX2_entry 26 = .ok (.iload_n 1, 1) := by decide +kernel
theorem dX2_entry_27 : decode cX2_entry 27 = .ok (.imul, 1) := by decide +kernel
theorem dX2_entry_28 : decode cX2_entry 28 = .ok (.iload_n 2, 1) := by decide +kernel
theorem dX2_entry_29 : decode cX2_entry 29 = .ok (.iadd, 1) := by decide +kernel
theorem dX2_entry_30 : decode cX2_entry 30 = .ok (.iaload, 1) := by decide +kernel
theorem dX2_entry_31 : decode cX2_entry 31 = .ok (.ireturn, 1) := by decide +kernel
abbrev cX2_compatible : ByteArray := prog_3_method_13_code
def yX2_compatible : MethodName := ⟨RX2, "compatible", "(II)I"⟩
theorem dX2_compatible_0 : decode cX2_compatible 0 = .ok (.aload_n 0, 1) := by decide +kernel
theorem dX2_compatible_1 : decode cX2_compatible 1 = .ok (.iload_n 1, 1) := by decide +kernel
theorem dX2_compatible_2 : decode cX2_compatible 2 = .ok (.invokevirtual 24, 3) := by decide +kernel
theorem dX2_compatible_5 : decode cX2_compatible 5 = .ok (.ifCond .ne 11, 3) := by decide +kernel
theorem dX2_compatible_8 : decode cX2_compatible 8 = .ok (.aload_n 0, 1) := by decide +kernel
theorem dX2_compatible_9 : decode cX2_compatible 9 = .ok (.iload_n 2, 1) := by decide +kernel
theorem dX2_compatible_10 : decode cX2_compatible 10 = .ok (.invokevirtual 24, 3) := by decide +kernel
theorem dX2_compatible_13 : decode cX2_compatible 13 = .ok (.ifCond .eq 5, 3) := by decide +kernel
theorem dX2_compatible_16 : decode cX2_compatible 16 = .ok (.iconst (-1), 1) := by decide +kernel
theorem dX2_compatible_17 : decode cX2_compatible 17 = .ok (.ireturn, 1) := by decide +kernel
theorem dX2_compatible_18 : decode cX2_compatible 18 = .ok (.aload_n 0, 1) := by decide +kernel
theorem dX2_compatible_19 : decode cX2_compatible 19 = .ok (.iload_n 1, 1) := by decide +kernel
theorem dX2_compatible_20 : decode cX2_compatible 20 = .ok (.iload_n 2, 1) := by decide +kernel
theorem dX2_compatible_21 : decode cX2_compatible 21 = .ok (.invokevirtual 49, 3) := by decide +kernel
theorem dX2_compatible_24 : decode cX2_compatible 24 = .ok (.ifCond .ne 7, 3) := by decide +kernel
theorem dX2_compatible_27 : decode cX2_compatible 27 = .ok (.iconst 1, 1) := by decide +kernel
theorem dX2_compatible_28 : decode cX2_compatible 28 = .ok (.goto 4, 3) := by decide +kernel
theorem dX2_compatible_31 : decode cX2_compatible 31 = .ok (.iconst 0, 1) := by decide +kernel
theorem dX2_compatible_32 : decode cX2_compatible 32 = .ok (.ireturn, 1) := by decide +kernel
abbrev cX2_shortest : ByteArray := prog_3_method_12_code
def yX2_shortest : MethodName := ⟨RX2, "shortest", "(II)I"⟩
theorem dX2_shortest_0 : decode cX2_shortest 0 = .ok (.aload_n 0, 1) := by decide +kernel
theorem dX2_shortest_1 : decode cX2_shortest 1 = .ok (.getfield 20, 3) := by decide +kernel
theorem dX2_shortest_4 : decode cX2_shortest 4 = .ok (.aload_n 0, 1) := by decide +kernel
theorem dX2_shortest_5 : decode cX2_shortest 5 = .ok (.getfield 20, 3) := by decide +kernel
theorem dX2_shortest_8 : decode cX2_shortest 8 = .ok (.iconst 1, 1) := by decide +kernel
theorem dX2_shortest_9 : decode cX2_shortest 9 = .ok (.isub, 1) := by decide +kernel
theorem dX2_shortest_10 : decode cX2_shortest 10 = .ok (.imul, 1) := by decide +kernel
theorem dX2_shortest_11 : decode cX2_shortest 11 = .ok (.iconst 2, 1) := by decide +kernel
theorem dX2_shortest_12 : decode cX2_shortest 12 = .ok (.idiv, 1) := by decide +kernel
theorem dX2_shortest_13 : decode cX2_shortest 13 = .ok (.istore_n 3, 1) := by decide +kernel
theorem dX2_shortest_14 : decode cX2_shortest 14 = .ok (.iconst 1, 1) := by decide +kernel
theorem dX2_shortest_15 : decode cX2_shortest 15 = .ok (.istore 4, 2) := by decide +kernel
theorem dX2_shortest_17 : decode cX2_shortest 17 = .ok (.iload 4, 2) := by decide +kernel
theorem dX2_shortest_19 : decode cX2_shortest 19 = .ok (.iload_n 3, 1) := by decide +kernel
theorem dX2_shortest_20 : decode cX2_shortest 20 = .ok (.if_icmp .gt 34, 3) := by decide +kernel
theorem dX2_shortest_23 : decode cX2_shortest 23 = .ok (.iload 4, 2) := by decide +kernel
theorem dX2_shortest_25 : decode cX2_shortest 25 = .ok (.bipush 10, 2) := by decide +kernel
theorem dX2_shortest_27 : decode cX2_shortest 27 = .ok (.if_icmp .gt 27, 3) := by decide +kernel
theorem dX2_shortest_30 : decode cX2_shortest 30 = .ok (.aload_n 0, 1) := by decide +kernel
theorem dX2_shortest_31 : decode cX2_shortest 31 = .ok (.iload_n 1, 1) := by decide +kernel
theorem dX2_shortest_32 : decode cX2_shortest 32 = .ok (.iload_n 2, 1) := by decide +kernel
theorem dX2_shortest_33 : decode cX2_shortest 33 = .ok (.iload 4, 2) := by decide +kernel
theorem dX2_shortest_35 : decode cX2_shortest 35 = .ok (.invokevirtual 45, 3) := by decide +kernel
theorem dX2_shortest_38 : decode cX2_shortest 38 = .ok (.istore 5, 2) := by decide +kernel
theorem dX2_shortest_40 : decode cX2_shortest 40 = .ok (.iload 5, 2) := by decide +kernel
theorem dX2_shortest_42 : decode cX2_shortest 42 = .ok (.ifCond .lt 6, 3) := by decide +kernel
theorem dX2_shortest_45 : decode cX2_shortest 45 = .ok (.iload 4, 2) := by decide +kernel
theorem dX2_shortest_47 : decode cX2_shortest 47 = .ok (.ireturn, 1) := by decide +kernel
theorem dX2_shortest_48 : decode cX2_shortest 48 = .ok (.iinc 4 1, 3) := by decide +kernel
theorem dX2_shortest_51 : decode cX2_shortest 51 = .ok (.goto (-34), 3) := by decide +kernel
theorem dX2_shortest_54 : decode cX2_shortest 54 = .ok (.iconst 0, 1) := by decide +kernel
theorem dX2_shortest_55 : decode cX2_shortest 55 = .ok (.ireturn, 1) := by decide +kernel
abbrev cX2_splitter : ByteArray := prog_3_method_11_code
def yX2_splitter : MethodName := ⟨RX2, "splitter", "(III)I"⟩
theorem dX2_splitter_0 : decode cX2_splitter 0 = .ok (.iconst 0, 1) := by decide +kernel
theorem dX2_splitter_1 : decode cX2_splitter 1 = .ok (.istore 4, 2) := by decide +kernel
theorem dX2_splitter_3 : decode cX2_splitter 3 = .ok (.iload 4, 2) := by decide +kernel
theorem dX2_splitter_5 : decode cX2_splitter 5 = .ok (.iconst 1, 1) := by decide +kernel
theorem dX2_splitter_6 : decode cX2_splitter 6 = .ok (.iload_n 3, 1) := by decide +kernel
theorem dX2_splitter_7 : decode cX2_splitter 7 = .ok (.ishl, 1) := by decide +kernel
theorem dX2_splitter_8 : decode cX2_splitter 8 = .ok (.if_icmp .ge 24, 3) := by decide +kernel
theorem dX2_splitter_11 : decode cX2_splitter 11 = .ok (.aload_n 0, 1) := by decide +kernel
theorem dX2_splitter_12 : decode cX2_splitter 12 = .ok (.iload_n 1, 1) := by decide +kernel
theorem dX2_splitter_13 : decode cX2_splitter 13 = .ok (.iload_n 2, 1) := by decide +kernel
theorem dX2_splitter_14 : decode cX2_splitter 14 = .ok (.iload_n 3, 1) := by decide +kernel
theorem dX2_splitter_15 : decode cX2_splitter 15 = .ok (.iload 4, 2) := by decide +kernel
theorem dX2_splitter_17 : decode cX2_splitter 17 = .ok (.invokevirtual 41, 3) := by decide +kernel
theorem dX2_splitter_20 : decode cX2_splitter 20 = .ok (.ifCond .eq 6, 3) := by decide +kernel
theorem dX2_splitter_23 : decode cX2_splitter 23 = .ok (.iload 4, 2) := by decide +kernel
theorem dX2_splitter_25 : decode cX2_splitter 25 = .ok (.ireturn, 1) := by decide +kernel
theorem dX2_splitter_26 : decode cX2_splitter 26 = .ok (.iinc 4 1, 3) := by decide +kernel
theorem dX2_splitter_29 : decode cX2_splitter 29 = .ok (.goto (-26), 3) := by decide +kernel
theorem dX2_splitter_32 : decode cX2_splitter 32 = .ok (.iconst (-1), 1) := by decide +kernel
theorem dX2_splitter_33 : decode cX2_splitter 33 = .ok (.ireturn, 1) := by decide +kernel
abbrev cX2_splits : ByteArray := prog_3_method_10_code
def yX2_splits : MethodName := ⟨RX2, "splits", "(IIII)Z"⟩
theorem dX2_splits_0 : decode cX2_splits 0 = .ok (.iload_n 1, 1) := by decide +kernel
theorem dX2_splits_1 : decode cX2_splits 1 = .ok (.istore 5, 2) := by decide +kernel
theorem dX2_splits_3 : decode cX2_splits 3 = .ok (.iload_n 2, 1) := by decide +kernel
theorem dX2_splits_4 : decode cX2_splits 4 = .ok (.istore 6, 2) := by decide +kernel
theorem dX2_splits_6 : decode cX2_splits 6 = .ok (.iload_n 3, 1) := by decide +kernel
theorem dX2_splits_7 : decode cX2_splits 7 = .ok (.iconst 1, 1) := by decide +kernel
theorem dX2_splits_8 : decode cX2_splits 8 = .ok (.isub, 1) := by decide +kernel
theorem dX2_splits_9 : decode cX2_splits 9 = .ok (.istore 7, 2) := by decide +kernel
theorem dX2_splits_11 : decode cX2_splits 11 = .ok (.iload 7, 2) := by decide +kernel
theorem dX2_splits_13 : decode cX2_splits 13 = .ok (.ifCond .le 52, 3) := by decide +kernel
theorem dX2_splits_16 : decode cX2_splits 16 = .ok (.iload 4, 2) := by decide +kernel
theorem dX2_splits_18 : decode cX2_splits 18 = .ok (.iload 7, 2) := by decide +kernel
theorem dX2_splits_20 : decode cX2_splits 20 = .ok (.ishr, 1) := by decide +kernel
theorem dX2_splits_21 : decode cX2_splits 21 = .ok (.iconst 1, 1) := by decide +kernel
theorem dX2_splits_22 : decode cX2_splits 22 = .ok (.iand, 1) := by decide +kernel
theorem dX2_splits_23 : decode cX2_splits 23 = .ok (.istore 8, 2) := by decide +kernel
theorem dX2_splits_25 : decode cX2_splits 25 = .ok (.aload_n 0, 1) := by decide +kernel
theorem dX2_splits_26 : decode cX2_splits 26 = .ok (.iload 5, 2) := by decide +kernel
theorem dX2_splits_28 : decode cX2_splits 28 = .ok (.iload 8, 2) := by decide +kernel
theorem dX2_splits_30 : decode cX2_splits 30 = .ok (.invokevirtual 34, 3) := by decide +kernel
theorem dX2_splits_33 : decode cX2_splits 33 = .ok (.istore 5, 2) := by decide +kernel
theorem dX2_splits_35 : decode cX2_splits 35 = .ok (.aload_n 0, 1) := by decide +kernel
theorem dX2_splits_36 : decode cX2_splits 36 = .ok (.iload 6, 2) := by decide +kernel
theorem dX2_splits_38 : decode cX2_splits 38 = .ok (.iload 8, 2) := by decide +kernel
theorem dX2_splits_40 : decode cX2_splits 40 = .ok (.invokevirtual 34, 3) := by decide +kernel
theorem dX2_splits_43 : decode cX2_splits 43 = .ok (.istore 6, 2) := by decide +kernel
theorem dX2_splits_45 : decode cX2_splits 45 = .ok (.iload 5, 2) := by decide +kernel
theorem dX2_splits_47 : decode cX2_splits 47 = .ok (.iconst (-1), 1) := by decide +kernel
theorem dX2_splits_48 : decode cX2_splits 48 = .ok (.if_icmp .eq 9, 3) := by decide +kernel
theorem dX2_splits_51 : decode cX2_splits 51 = .ok (.iload 6, 2) := by decide +kernel
theorem dX2_splits_53 : decode cX2_splits 53 = .ok (.iconst (-1), 1) := by decide +kernel
theorem dX2_splits_54 : decode cX2_splits 54 = .ok (.if_icmp .ne 5, 3) := by decide +kernel
theorem dX2_splits_57 : decode cX2_splits 57 = .ok (.iconst 0, 1) := by decide +kernel
theorem dX2_splits_58 : decode cX2_splits 58 = .ok (.ireturn, 1) := by decide +kernel
theorem dX2_splits_59 : decode cX2_splits 59 = .ok (.iinc 7 (-1), 3) := by decide +kernel
theorem dX2_splits_62 : decode cX2_splits 62 = .ok (.goto (-51), 3) := by decide +kernel
theorem dX2_splits_65 : decode cX2_splits 65 = .ok (.aload_n 0, 1) := by decide +kernel
theorem dX2_splits_66 : decode cX2_splits 66 = .ok (.iload 5, 2) := by decide +kernel
theorem dX2_splits_68 : decode cX2_splits 68 = .ok (.iload 4, 2) := by decide +kernel
theorem dX2_splits_70 : decode cX2_splits 70 = .ok (.iconst 1, 1) := by decide +kernel
theorem dX2_splits_71 : decode cX2_splits 71 = .ok (.iand, 1) := by decide +kernel
theorem dX2_splits_72 : decode cX2_splits 72 = .ok (.invokevirtual 38, 3) := by decide +kernel
theorem dX2_splits_75 : decode cX2_splits 75 = .ok (.istore 7, 2) := by decide +kernel
theorem dX2_splits_77 : decode cX2_splits 77 = .ok (.aload_n 0, 1) := by decide +kernel
theorem dX2_splits_78 : decode cX2_splits 78 = .ok (.iload 6, 2) := by decide +kernel
theorem dX2_splits_80 : decode cX2_splits 80 = .ok (.iload 4, 2) := by decide +kernel
theorem dX2_splits_82 : decode cX2_splits 82 = .ok (.iconst 1, 1) := by decide +kernel
theorem dX2_splits_83 : decode cX2_splits 83 = .ok (.iand, 1) := by decide +kernel
theorem dX2_splits_84 : decode cX2_splits 84 = .ok (.invokevirtual 38, 3) := by decide +kernel
theorem dX2_splits_87 : decode cX2_splits 87 = .ok (.istore 8, 2) := by decide +kernel
theorem dX2_splits_89 : decode cX2_splits 89 = .ok (.iload 7, 2) := by decide +kernel
theorem dX2_splits_91 : decode cX2_splits 91 = .ok (.iconst (-1), 1) := by decide +kernel
theorem dX2_splits_92 : decode cX2_splits 92 = .ok (.if_icmp .eq 20, 3) := by decide +kernel
theorem dX2_splits_95 : decode cX2_splits 95 = .ok (.iload 8, 2) := by decide +kernel
theorem dX2_splits_97 : decode cX2_splits 97 = .ok (.iconst (-1), 1) := by decide +kernel
theorem dX2_splits_98 : decode cX2_splits 98 = .ok (.if_icmp .eq 14, 3) := by decide +kernel
theorem dX2_splits_101 : decode cX2_splits 101 = .ok (.iload 7, 2) := by decide +kernel
theorem dX2_splits_103 : decode cX2_splits 103 = .ok (.iload 8, 2) := by decide +kernel
theorem dX2_splits_105 : decode cX2_splits 105 = .ok (.if_icmp .eq 7, 3) := by decide +kernel
theorem dX2_splits_108 : decode cX2_splits 108 = .ok (.iconst 1, 1) := by decide +kernel
theorem dX2_splits_109 : decode cX2_splits 109 = .ok (.goto 4, 3) := by decide +kernel
theorem dX2_splits_112 : decode cX2_splits 112 = .ok (.iconst 0, 1) := by decide +kernel
theorem dX2_splits_113 : decode cX2_splits 113 = .ok (.ireturn, 1) := by decide +kernel
abbrev cX2_next : ByteArray := prog_3_method_6_code
def yX2_next : MethodName := ⟨RX2, "next", "(II)I"⟩
theorem dX2_next_0 : decode cX2_next 0 = .ok (.aload_n 0, 1) := by decide +kernel
theorem dX2_next_1 : decode cX2_next 1 = .ok (.getfield 7, 3) := by decide +kernel
theorem dX2_next_4 : decode cX2_next 4 = .ok (.iconst 2, 1) := by decide +kernel
theorem dX2_next_5 : decode cX2_next 5 = .ok (.iload_n 1, 1) := by decide +kernel
theorem dX2_next_6 : decode cX2_next 6 = .ok (.imul, 1) := by decide +kernel
theorem dX2_next_7 : decode cX2_next 7 = .ok (.iload_n 2, 1) := by decide +kernel
theorem dX2_next_8 : decode cX2_next 8 = .ok (.iadd, 1) := by decide +kernel
theorem dX2_next_9 : decode cX2_next 9 = .ok (.iaload, 1) := by decide +kernel
theorem dX2_next_10 : decode cX2_next 10 = .ok (.iconst 3, 1) := by decide +kernel
theorem dX2_next_11 : decode cX2_next 11 = .ok (.idiv, 1) := by decide +kernel
theorem dX2_next_12 : decode cX2_next 12 = .ok (.iconst 1, 1) := by decide +kernel
theorem dX2_next_13 : decode cX2_next 13 = .ok (.isub, 1) := by decide +kernel
theorem dX2_next_14 : decode cX2_next 14 = .ok (.ireturn, 1) := by decide +kernel
abbrev cX2_output : ByteArray := prog_3_method_7_code
def yX2_output : MethodName := ⟨RX2, "output", "(II)I"⟩
theorem dX2_output_0 : decode cX2_output 0 = .ok (.aload_n 0, 1) := by decide +kernel
theorem dX2_output_1 : decode cX2_output 1 = .ok (.getfield 7, 3) := by decide +kernel
theorem dX2_output_4 : decode cX2_output 4 = .ok (.iconst 2, 1) := by decide +kernel
theorem dX2_output_5 : decode cX2_output 5 = .ok (.iload_n 1, 1) := by decide +kernel
theorem dX2_output_6 : decode cX2_output 6 = .ok (.imul, 1) := by decide +kernel
theorem dX2_output_7 : decode cX2_output 7 = .ok (.iload_n 2, 1) := by decide +kernel
theorem dX2_output_8 : decode cX2_output 8 = .ok (.iadd, 1) := by decide +kernel
theorem dX2_output_9 : decode cX2_output 9 = .ok (.iaload, 1) := by decide +kernel
theorem dX2_output_10 : decode cX2_output 10 = .ok (.iconst 3, 1) := by decide +kernel
theorem dX2_output_11 : decode cX2_output 11 = .ok (.irem, 1) := by decide +kernel
theorem dX2_output_12 : decode cX2_output 12 = .ok (.iconst 1, 1) := by decide +kernel
theorem dX2_output_13 : decode cX2_output 13 = .ok (.isub, 1) := by decide +kernel
theorem dX2_output_14 : decode cX2_output 14 = .ok (.ireturn, 1) := by decide +kernel
abbrev cX2_splitLength : ByteArray := prog_3_method_14_code
def yX2_splitLength : MethodName := ⟨RX2, "splitLength", "(II)I"⟩
theorem dX2_splitLength_0 : decode cX2_splitLength 0 = .ok (.aload_n 0, 1) := by decide +kernel
theorem dX2_splitLength_1 : decode cX2_splitLength 1 = .ok (.iload_n 1, 1) := by decide +kernel
theorem dX2_splitLength_2 : decode cX2_splitLength 2 = .ok (.invokevirtual 24, 3) := by decide +kernel
theorem dX2_splitLength_5 : decode cX2_splitLength 5 = .ok (.ifCond .ne 11, 3) := by decide +kernel
theorem dX2_splitLength_8 : decode cX2_splitLength 8 = .ok (.aload_n 0, 1) := by decide +kernel
theorem dX2_splitLength_9 : decode cX2_splitLength 9 = .ok (.iload_n 2, 1) := by decide +kernel
theorem dX2_splitLength_10 : decode cX2_splitLength 10 = .ok (.invokevirtual 24, 3) := by decide +kernel
theorem dX2_splitLength_13 : decode cX2_splitLength 13 = .ok (.ifCond .eq 5, 3) := by decide +kernel
theorem dX2_splitLength_16 : decode cX2_splitLength 16 = .ok (.iconst (-1), 1) := by decide +kernel
theorem dX2_splitLength_17 : decode cX2_splitLength 17 = .ok (.ireturn, 1) := by decide +kernel
theorem dX2_splitLength_18 : decode cX2_splitLength 18 = .ok (.aload_n 0, 1) := by decide +kernel
theorem dX2_splitLength_19 : decode cX2_splitLength 19 = .ok (.iload_n 1, 1) := by decide +kernel
theorem dX2_splitLength_20 : decode cX2_splitLength 20 = .ok (.iload_n 2, 1) := by decide +kernel
theorem dX2_splitLength_21 : decode cX2_splitLength 21 = .ok (.invokevirtual 49, 3) := by decide +kernel
theorem dX2_splitLength_24 : decode cX2_splitLength 24 = .ok (.istore_n 3, 1) := by decide +kernel
theorem dX2_splitLength_25 : decode cX2_splitLength 25 = .ok (.iload_n 3, 1) := by decide +kernel
theorem dX2_splitLength_26 : decode cX2_splitLength 26 = .ok (.ifCond .ne 8, 3) := by decide +kernel
theorem dX2_splitLength_29 : decode cX2_splitLength 29 = .ok (.bipush (-2), 2) := by decide +kernel
theorem dX2_splitLength_31 : decode cX2_splitLength 31 = .ok (.goto 4, 3) := by decide +kernel
theorem dX2_splitLength_34 : decode cX2_splitLength 34 = .ok (.iload_n 3, 1) := by decide +kernel
theorem dX2_splitLength_35 : decode cX2_splitLength 35 = .ok (.ireturn, 1) := by decide +kernel
abbrev cX2_splitWord : ByteArray := prog_3_method_15_code
def yX2_splitWord : MethodName := ⟨RX2, "splitWord", "(II)I"⟩
theorem dX2_splitWord_0 : decode cX2_splitWord 0 = .ok (.aload_n 0, 1) := by decide +kernel
theorem dX2_splitWord_1 : decode cX2_splitWord 1 = .ok (.iload_n 1, 1) := by decide +kernel
theorem dX2_splitWord_2 : decode cX2_splitWord 2 = .ok (.invokevirtual 24, 3) := by decide +kernel
theorem dX2_splitWord_5 : decode cX2_splitWord 5 = .ok (.ifCond .ne 11, 3) := by decide +kernel
theorem dX2_splitWord_8 : decode cX2_splitWord 8 = .ok (.aload_n 0, 1) := by decide +kernel
theorem dX2_splitWord_9 : decode cX2_splitWord 9 = .ok (.iload_n 2, 1) := by decide +kernel
theorem dX2_splitWord_10 : decode cX2_splitWord 10 = .ok (.invokevirtual 24, 3) := by decide +kernel
theorem dX2_splitWord_13 : decode cX2_splitWord 13 = .ok (.ifCond .eq 5, 3) := by decide +kernel
theorem dX2_splitWord_16 : decode cX2_splitWord 16 = .ok (.iconst (-1), 1) := by decide +kernel
theorem dX2_splitWord_17 : decode cX2_splitWord 17 = .ok (.ireturn, 1) := by decide +kernel
theorem dX2_splitWord_18 : decode cX2_splitWord 18 = .ok (.aload_n 0, 1) := by decide +kernel
theorem dX2_splitWord_19 : decode cX2_splitWord 19 = .ok (.iload_n 1, 1) := by decide +kernel
theorem dX2_splitWord_20 : decode cX2_splitWord 20 = .ok (.iload_n 2, 1) := by decide +kernel
theorem dX2_splitWord_21 : decode cX2_splitWord 21 = .ok (.invokevirtual 49, 3) := by decide +kernel
theorem dX2_splitWord_24 : decode cX2_splitWord 24 = .ok (.istore_n 3, 1) := by decide +kernel
theorem dX2_splitWord_25 : decode cX2_splitWord 25 = .ok (.iload_n 3, 1) := by decide +kernel
theorem dX2_splitWord_26 : decode cX2_splitWord 26 = .ok (.ifCond .ne 8, 3) := by decide +kernel
theorem dX2_splitWord_29 : decode cX2_splitWord 29 = .ok (.bipush (-2), 2) := by decide +kernel
theorem dX2_splitWord_31 : decode cX2_splitWord 31 = .ok (.goto 10, 3) := by decide +kernel
theorem dX2_splitWord_34 : decode cX2_splitWord 34 = .ok (.aload_n 0, 1) := by decide +kernel
theorem dX2_splitWord_35 : decode cX2_splitWord 35 = .ok (.iload_n 1, 1) := by decide +kernel
theorem dX2_splitWord_36 : decode cX2_splitWord 36 = .ok (.iload_n 2, 1) := by decide +kernel
theorem dX2_splitWord_37 : decode cX2_splitWord 37 = .ok (.iload_n 3, 1) := by decide +kernel
theorem dX2_splitWord_38 : decode cX2_splitWord 38 = .ok (.invokevirtual 45, 3) := by decide +kernel
theorem dX2_splitWord_41 : decode cX2_splitWord 41 = .ok (.ireturn, 1) := by decide +kernel
abbrev cX2_compatibleSet : ByteArray := prog_3_method_19_code
def yX2_compatibleSet : MethodName := ⟨RX2, "compatibleSet", "(I)I"⟩
theorem dX2_compatibleSet_0 : decode cX2_compatibleSet 0 = .ok (.aload_n 0, 1) := by decide +kernel
theorem dX2_compatibleSet_1 : decode cX2_compatibleSet 1 = .ok (.iload_n 1, 1) := by decide +kernel
theorem dX2_compatibleSet_2 : decode cX2_compatibleSet 2 = .ok (.invokevirtual 56, 3) := by decide +kernel
theorem dX2_compatibleSet_5 : decode cX2_compatibleSet 5 = .ok (.ifCond .eq 5, 3) := by decide +kernel
theorem dX2_compatibleSet_8 : decode cX2_compatibleSet 8 = .ok (.iconst (-1), 1) := by decide +kernel
theorem dX2_compatibleSet_9 : decode cX2_compatibleSet 9 = .ok (.ireturn, 1) := by decide +kernel
theorem dX2_compatibleSet_10 : decode cX2_compatibleSet 10 = .ok (.aload_n 0, 1) := by decide +kernel
theorem dX2_compatibleSet_11 : decode cX2_compatibleSet 11 = .ok (.invokevirtual 59, 3) := by decide +kernel
theorem dX2_compatibleSet_14 : decode cX2_compatibleSet 14 = .ok (.aload_n 0, 1) := by decide +kernel
theorem dX2_compatibleSet_15 : decode cX2_compatibleSet 15 = .ok (.iload_n 1, 1) := by decide +kernel
theorem dX2_compatibleSet_16 : decode cX2_compatibleSet 16 = .ok (.invokevirtual 62, 3) := by decide +kernel
theorem dX2_compatibleSet_19 : decode cX2_compatibleSet 19 = .ok (.ifCond .eq 7, 3) := by decide +kernel
theorem dX2_compatibleSet_22 : decode cX2_compatibleSet 22 = .ok (.iconst 1, 1) := by decide +kernel
theorem dX2_compatibleSet_23 : decode cX2_compatibleSet 23 = .ok (.goto 4, 3) := by decide +kernel
theorem dX2_compatibleSet_26 : decode cX2_compatibleSet 26 = .ok (.iconst 0, 1) := by decide +kernel
theorem dX2_compatibleSet_27 : decode cX2_compatibleSet 27 = .ok (.ireturn, 1) := by decide +kernel
abbrev cX2_badSet : ByteArray := prog_3_method_5_code
def yX2_badSet : MethodName := ⟨RX2, "badSet", "(I)Z"⟩
theorem dX2_badSet_0 : decode cX2_badSet 0 = .ok (.iload_n 1, 1) := by decide +kernel
theorem dX2_badSet_1 : decode cX2_badSet 1 = .ok (.iconst 1, 1) := by decide +kernel
theorem dX2_badSet_2 : decode cX2_badSet 2 = .ok (.if_icmp .lt 13, 3) := by decide +kernel
theorem dX2_badSet_5 : decode cX2_badSet 5 = .ok (.iload_n 1, 1) := by decide +kernel
theorem dX2_badSet_6 : decode cX2_badSet 6 = .ok (.iconst 1, 1) := by decide +kernel
theorem dX2_badSet_7 : decode cX2_badSet 7 = .ok (.aload_n 0, 1) := by decide +kernel
theorem dX2_badSet_8 : decode cX2_badSet 8 = .ok (.getfield 20, 3) := by decide +kernel
theorem dX2_badSet_11 : decode cX2_badSet 11 = .ok (.ishl, 1) := by decide +kernel
theorem dX2_badSet_12 : decode cX2_badSet 12 = .ok (.if_icmp .lt 7, 3) := by decide +kernel
theorem dX2_badSet_15 : decode cX2_badSet 15 = .ok (.iconst 1, 1) := by decide +kernel
theorem dX2_badSet_16 : decode cX2_badSet 16 = .ok (.goto 4, 3) := by decide +kernel
theorem dX2_badSet_19 : decode cX2_badSet 19 = .ok (.iconst 0, 1) := by decide +kernel
theorem dX2_badSet_20 : decode cX2_badSet 20 = .ok (.ireturn, 1) := by decide +kernel
abbrev cX2_tabulate : ByteArray := prog_3_method_16_code
def yX2_tabulate : MethodName := ⟨RX2, "tabulate", "()V"⟩
theorem dX2_tabulate_0 : decode cX2_tabulate 0 = .ok (.iconst 0, 1) := by decide +kernel
theorem dX2_tabulate_1 : decode cX2_tabulate 1 = .ok (.istore_n 1, 1) := by decide +kernel
theorem dX2_tabulate_2 : decode cX2_tabulate 2 = .ok (.iload_n 1, 1) := by decide +kernel
theorem dX2_tabulate_3 : decode cX2_tabulate 3 = .ok (.aload_n 0, 1) := by decide +kernel
theorem dX2_tabulate_4 : decode cX2_tabulate 4 = .ok (.getfield 20, 3) := by decide +kernel
theorem dX2_tabulate_7 : decode cX2_tabulate 7 = .ok (.if_icmp .ge 65, 3) := by decide +kernel
theorem dX2_tabulate_10 : decode cX2_tabulate 10 = .ok (.iload_n 1, 1) := by decide +kernel
theorem dX2_tabulate_11 : decode cX2_tabulate 11 = .ok (.iconst 5, 1) := by decide +kernel
theorem dX2_tabulate_12 : decode cX2_tabulate 12 = .ok (.if_icmp .ge 60, 3) := by decide +kernel
theorem dX2_tabulate_15 : decode cX2_tabulate 15 = .ok (.iconst 0, 1) := by decide +kernel
theorem dX2_tabulate_16 : decode cX2_tabulate 16 = .ok (.istore_n 2, 1) := by decide +kernel
theorem dX2_tabulate_17 : decode cX2_tabulate 17 = .ok (.iload_n 2, 1) := by decide +kernel
theorem dX2_tabulate_18 : decode cX2_tabulate 18 = .ok (.aload_n 0, 1) := by decide +kernel
theorem dX2_tabulate_19 : decode cX2_tabulate 19 = .ok (.getfield 20, 3) := by decide +kernel
theorem dX2_tabulate_22 : decode cX2_tabulate 22 = .ok (.if_icmp .ge 44, 3) := by decide +kernel
theorem dX2_tabulate_25 : decode cX2_tabulate 25 = .ok (.iload_n 2, 1) := by decide +kernel
theorem dX2_tabulate_26 : decode cX2_tabulate 26 = .ok (.iconst 5, 1) := by decide +kernel
theorem dX2_tabulate_27 : decode cX2_tabulate 27 = .ok (.if_icmp .ge 39, 3) := by decide +kernel
theorem dX2_tabulate_30 : decode cX2_tabulate 30 = .ok (.aload_n 0, 1) := by decide +kernel
theorem dX2_tabulate_31 : decode cX2_tabulate 31 = .ok (.getfield 13, 3) := by decide +kernel
theorem dX2_tabulate_34 : decode cX2_tabulate 34 = .ok (.bipush 8, 2) := by decide +kernel
theorem dX2_tabulate_36 : decode cX2_tabulate 36 = .ok (.iload_n 1, 1) := by decide +kernel
theorem dX2_tabulate_37 : decode cX2_tabulate 37 = .ok (.imul, 1) := by decide +kernel
theorem dX2_tabulate_38 : decode cX2_tabulate 38 = .ok (.iload_n 2, 1) := by decide +kernel
theorem dX2_tabulate_39 : decode cX2_tabulate 39 = .ok (.iadd, 1) := by decide +kernel
theorem dX2_tabulate_40 : decode cX2_tabulate 40 = .ok (.iload_n 1, 1) := by decide +kernel
theorem dX2_tabulate_41 : decode cX2_tabulate 41 = .ok (.iload_n 2, 1) := by decide +kernel
theorem dX2_tabulate_42 : decode cX2_tabulate 42 = .ok (.if_icmp .eq 12, 3) := by decide +kernel
theorem dX2_tabulate_45 : decode cX2_tabulate 45 = .ok (.aload_n 0, 1) := by decide +kernel
theorem dX2_tabulate_46 : decode cX2_tabulate 46 = .ok (.iload_n 1, 1) := by decide +kernel
theorem dX2_tabulate_47 : decode cX2_tabulate 47 = .ok (.iload_n 2, 1) := by decide +kernel
theorem dX2_tabulate_48 : decode cX2_tabulate 48 = .ok (.invokevirtual 49, 3) := by decide +kernel
theorem dX2_tabulate_51 : decode cX2_tabulate 51 = .ok (.ifCond .ne 7, 3) := by decide +kernel
theorem dX2_tabulate_54 : decode cX2_tabulate 54 = .ok (.iconst 1, 1) := by decide +kernel
theorem dX2_tabulate_55 : decode cX2_tabulate 55 = .ok (.goto 4, 3) := by decide +kernel
theorem dX2_tabulate_58 : decode cX2_tabulate 58 = .ok (.iconst 0, 1) := by decide +kernel
theorem dX2_tabulate_59 : decode cX2_tabulate 59 = .ok (.bastore, 1) := by decide +kernel
theorem dX2_tabulate_60 : decode cX2_tabulate 60 = .ok (.iinc 2 1, 3) := by decide +kernel
theorem dX2_tabulate_63 : decode cX2_tabulate 63 = .ok (.goto (-46), 3) := by decide +kernel
theorem dX2_tabulate_66 : decode cX2_tabulate 66 = .ok (.iinc 1 1, 3) := by decide +kernel
theorem dX2_tabulate_69 : decode cX2_tabulate 69 = .ok (.goto (-67), 3) := by decide +kernel
theorem dX2_tabulate_72 : decode cX2_tabulate 72 = .ok (.return_, 1) := by decide +kernel
abbrev cX2_agreeing : ByteArray := prog_3_method_18_code
def yX2_agreeing : MethodName := ⟨RX2, "agreeing", "(I)Z"⟩
theorem dX2_agreeing_0 : decode cX2_agreeing 0 = .ok (.iconst 0, 1) := by decide +kernel
theorem dX2_agreeing_1 : decode cX2_agreeing 1 = .ok (.istore_n 2, 1) := by decide +kernel
theorem dX2_agreeing_2 : decode cX2_agreeing 2 = .ok (.iload_n 2, 1) := by decide +kernel
theorem dX2_agreeing_3 : decode cX2_agreeing 3 = .ok (.aload_n 0, 1) := by decide +kernel
theorem dX2_agreeing_4 : decode cX2_agreeing 4 = .ok (.getfield 20, 3) := by decide +kernel
theorem dX2_agreeing_7 : decode cX2_agreeing 7 = .ok (.if_icmp .ge 69, 3) := by decide +kernel
theorem dX2_agreeing_10 : decode cX2_agreeing 10 = .ok (.iload_n 2, 1) := by decide +kernel
theorem dX2_agreeing_11 : decode cX2_agreeing 11 = .ok (.iconst 5, 1) := by decide +kernel
theorem dX2_agreeing_12 : decode cX2_agreeing 12 = .ok (.if_icmp .ge 64, 3) := by decide +kernel
theorem dX2_agreeing_15 : decode cX2_agreeing 15 = .ok (.iconst 0, 1) := by decide +kernel
theorem dX2_agreeing_16 : decode cX2_agreeing 16 = .ok (.istore_n 3, 1) := by decide +kernel
theorem dX2_agreeing_17 : decode cX2_agreeing 17 = .ok (.iload_n 3, 1) := by decide +kernel
theorem dX2_agreeing_18 : decode cX2_agreeing 18 = .ok (.aload_n 0, 1) := by decide +kernel
theorem dX2_agreeing_19 : decode cX2_agreeing 19 = .ok (.getfield 20, 3) := by decide +kernel
theorem dX2_agreeing_22 : decode cX2_agreeing 22 = .ok (.if_icmp .ge 48, 3) := by decide +kernel
theorem dX2_agreeing_25 : decode cX2_agreeing 25 = .ok (.iload_n 3, 1) := by decide +kernel
theorem dX2_agreeing_26 : decode cX2_agreeing 26 = .ok (.iconst 5, 1) := by decide +kernel
theorem dX2_agreeing_27 : decode cX2_agreeing 27 = .ok (.if_icmp .ge 43, 3) := by decide +kernel
theorem dX2_agreeing_30 : decode cX2_agreeing 30 = .ok (.aload_n 0, 1) := by decide +kernel
theorem dX2_agreeing_31 : decode cX2_agreeing 31 = .ok (.iload_n 1, 1) := by decide +kernel
theorem dX2_agreeing_32 : decode cX2_agreeing 32 = .ok (.iload_n 2, 1) := by decide +kernel
theorem dX2_agreeing_33 : decode cX2_agreeing 33 = .ok (.invokevirtual 52, 3) := by decide +kernel
theorem dX2_agreeing_36 : decode cX2_agreeing 36 = .ok (.ifCond .eq 28, 3) := by decide +kernel
theorem dX2_agreeing_39 : decode cX2_agreeing 39 = .ok (.aload_n 0, 1) := by decide +kernel
theorem dX2_agreeing_40 : decode cX2_agreeing 40 = .ok (.iload_n 1, 1) := by decide +kernel
theorem dX2_agreeing_41 : decode cX2_agreeing 41 = .ok (.iload_n 3, 1) := by decide +kernel
theorem dX2_agreeing_42 : decode cX2_agreeing 42 = .ok (.invokevirtual 52, 3) := by decide +kernel
theorem dX2_agreeing_45 : decode cX2_agreeing 45 = .ok (.ifCond .eq 19, 3) := by decide +kernel
theorem dX2_agreeing_48 : decode cX2_agreeing 48 = .ok (.aload_n 0, 1) := by decide +kernel
theorem dX2_agreeing_49 : decode cX2_agreeing 49 = .ok (.getfield 13, 3) := by decide +kernel
theorem dX2_agreeing_52 : decode cX2_agreeing 52 = .ok (.bipush 8, 2) := by decide +kernel
theorem dX2_agreeing_54 : decode cX2_agreeing 54 = .ok (.iload_n 2, 1) := by decide +kernel
theorem dX2_agreeing_55 : decode cX2_agreeing 55 = .ok (.imul, 1) := by decide +kernel
theorem dX2_agreeing_56 : decode cX2_agreeing 56 = .ok (.iload_n 3, 1) := by decide +kernel
theorem dX2_agreeing_57 : decode cX2_agreeing 57 = .ok (.iadd, 1) := by decide +kernel
theorem dX2_agreeing_58 : decode cX2_agreeing 58 = .ok (.baload, 1) := by decide +kernel
theorem dX2_agreeing_59 : decode cX2_agreeing 59 = .ok (.ifCond .ne 5, 3) := by decide +kernel
theorem dX2_agreeing_62 : decode cX2_agreeing 62 = .ok (.iconst 0, 1) := by decide +kernel
theorem dX2_agreeing_63 : decode cX2_agreeing 63 = .ok (.ireturn, 1) := by decide +kernel
theorem dX2_agreeing_64 : decode cX2_agreeing 64 = .ok (.iinc 3 1, 3) := by decide +kernel
theorem dX2_agreeing_67 : decode cX2_agreeing 67 = .ok (.goto (-50), 3) := by decide +kernel
theorem dX2_agreeing_70 : decode cX2_agreeing 70 = .ok (.iinc 2 1, 3) := by decide +kernel
theorem dX2_agreeing_73 : decode cX2_agreeing 73 = .ok (.goto (-71), 3) := by decide +kernel
theorem dX2_agreeing_76 : decode cX2_agreeing 76 = .ok (.iconst 1, 1) := by decide +kernel
theorem dX2_agreeing_77 : decode cX2_agreeing 77 = .ok (.ireturn, 1) := by decide +kernel
end
section
set_option maxRecDepth 100000
abbrev cX2_in : ByteArray := prog_3_method_17_code
def yX2_in : MethodName := ⟨RX2, "in", "(II)Z"⟩
theorem dX2_in_0 : decode cX2_in 0 = .ok (.iload_n 1, 1) := by decide +kernel
theorem dX2_in_1 : decode cX2_in 1 = .ok (.iload_n 2, 1) := by decide +kernel
theorem dX2_in_2 : decode cX2_in 2 = .ok (.ishr, 1) := by decide +kernel
theorem dX2_in_3 : decode cX2_in 3 = .ok (.iconst 1, 1) := by decide +kernel
theorem dX2_in_4 : decode cX2_in 4 = .ok (.iand, 1) := by decide +kernel
theorem dX2_in_5 : decode cX2_in 5 = .ok (.iconst 1, 1) := by decide +kernel
theorem dX2_in_6 : decode cX2_in 6 = .ok (.if_icmp .ne 7, 3) := by decide +kernel
theorem dX2_in_9 : decode cX2_in 9 = .ok (.iconst 1, 1) := by decide +kernel
theorem dX2_in_10 : decode cX2_in 10 = .ok (.goto 4, 3) := by decide +kernel
theorem dX2_in_13 : decode cX2_in 13 = .ok (.iconst 0, 1) := by decide +kernel
theorem dX2_in_14 : decode cX2_in 14 = .ok (.ireturn, 1) := by decide +kernel
abbrev cX2_maximals : ByteArray := prog_3_method_21_code
def yX2_maximals : MethodName := ⟨RX2, "maximals", "()I"⟩
theorem dX2_maximals_0 : decode cX2_maximals 0 = .ok (.aload_n 0, 1) := by decide +kernel
theorem dX2_maximals_1 : decode cX2_maximals 1 = .ok (.invokevirtual 59, 3) := by decide +kernel
theorem dX2_maximals_4 : decode cX2_maximals 4 = .ok (.iconst 0, 1) := by decide +kernel
theorem dX2_maximals_5 : decode cX2_maximals 5 = .ok (.istore_n 1, 1) := by decide +kernel
theorem dX2_maximals_6 : decode cX2_maximals 6 = .ok (.iconst 1, 1) := by decide +kernel
theorem dX2_maximals_7 : decode cX2_maximals 7 = .ok (.istore_n 2, 1) := by decide +kernel
theorem dX2_maximals_8 : decode cX2_maximals 8 = .ok (.iload_n 2, 1) := by decide +kernel
theorem dX2_maximals_9 : decode cX2_maximals 9 = .ok (.iconst 1, 1) := by decide +kernel
theorem dX2_maximals_10 : decode cX2_maximals 10 = .ok (.aload_n 0, 1) := by decide +kernel
theorem dX2_maximals_11 : decode cX2_maximals 11 = .ok (.getfield 20, 3) := by decide +kernel
theorem dX2_maximals_14 : decode cX2_maximals 14 = .ok (.ishl, 1) := by decide +kernel
theorem dX2_maximals_15 : decode cX2_maximals 15 = .ok (.if_icmp .ge 20, 3) := by decide +kernel
theorem dX2_maximals_18 : decode cX2_maximals 18 = .ok (.aload_n 0, 1) := by decide +kernel
theorem dX2_maximals_19 : decode cX2_maximals 19 = .ok (.iload_n 2, 1) := by decide +kernel
theorem dX2_maximals_20 : decode cX2_maximals 20 = .ok (.invokevirtual 65, 3) := by decide +kernel
theorem dX2_maximals_23 : decode cX2_maximals 23 = .ok (.ifCond .eq 6, 3) := by decide +kernel
theorem dX2_maximals_26 : decode cX2_maximals 26 = .ok (.iinc 1 1, 3) := by decide +kernel
theorem dX2_maximals_29 : decode cX2_maximals 29 = .ok (.iinc 2 1, 3) := by decide +kernel
theorem dX2_maximals_32 : decode cX2_maximals 32 = .ok (.goto (-24), 3) := by decide +kernel
theorem dX2_maximals_35 : decode cX2_maximals 35 = .ok (.iload_n 1, 1) := by decide +kernel
theorem dX2_maximals_36 : decode cX2_maximals 36 = .ok (.ireturn, 1) := by decide +kernel
abbrev cX2_largest : ByteArray := prog_3_method_20_code
def yX2_largest : MethodName := ⟨RX2, "largest", "(I)Z"⟩
theorem dX2_largest_0 : decode cX2_largest 0 = .ok (.aload_n 0, 1) := by decide +kernel
theorem dX2_largest_1 : decode cX2_largest 1 = .ok (.iload_n 1, 1) := by decide +kernel
theorem dX2_largest_2 : decode cX2_largest 2 = .ok (.invokevirtual 62, 3) := by decide +kernel
theorem dX2_largest_5 : decode cX2_largest 5 = .ok (.ifCond .ne 5, 3) := by decide +kernel
theorem dX2_largest_8 : decode cX2_largest 8 = .ok (.iconst 0, 1) := by decide +kernel
theorem dX2_largest_9 : decode cX2_largest 9 = .ok (.ireturn, 1) := by decide +kernel
theorem dX2_largest_10 : decode cX2_largest 10 = .ok (.iconst 1, 1) := by decide +kernel
theorem dX2_largest_11 : decode cX2_largest 11 = .ok (.istore_n 2, 1) := by decide +kernel
theorem dX2_largest_12 : decode cX2_largest 12 = .ok (.iload_n 2, 1) := by decide +kernel
theorem dX2_largest_13 : decode cX2_largest 13 = .ok (.iconst 1, 1) := by decide +kernel
theorem dX2_largest_14 : decode cX2_largest 14 = .ok (.aload_n 0, 1) := by decide +kernel
theorem dX2_largest_15 : decode cX2_largest 15 = .ok (.getfield 20, 3) := by decide +kernel
theorem dX2_largest_18 : decode cX2_largest 18 = .ok (.ishl, 1) := by decide +kernel
theorem dX2_largest_19 : decode cX2_largest 19 = .ok (.if_icmp .ge 31, 3) := by decide +kernel
theorem dX2_largest_22 : decode cX2_largest 22 = .ok (.iload_n 2, 1) := by decide +kernel
theorem dX2_largest_23 : decode cX2_largest 23 = .ok (.iload_n 1, 1) := by decide +kernel
theorem dX2_largest_24 : decode cX2_largest 24 = .ok (.if_icmp .eq 20, 3) := by decide +kernel
theorem dX2_largest_27 : decode cX2_largest 27 = .ok (.iload_n 2, 1) := by decide +kernel
theorem dX2_largest_28 : decode cX2_largest 28 = .ok (.iload_n 1, 1) := by decide +kernel
theorem dX2_largest_29 : decode cX2_largest 29 = .ok (.iand, 1) := by decide +kernel
theorem dX2_largest_30 : decode cX2_largest 30 = .ok (.iload_n 1, 1) := by decide +kernel
theorem dX2_largest_31 : decode cX2_largest 31 = .ok (.if_icmp .ne 13, 3) := by decide +kernel
theorem dX2_largest_34 : decode cX2_largest 34 = .ok (.aload_n 0, 1) := by decide +kernel
theorem dX2_largest_35 : decode cX2_largest 35 = .ok (.iload_n 2, 1) := by decide +kernel
theorem dX2_largest_36 : decode cX2_largest 36 = .ok (.invokevirtual 62, 3) := by decide +kernel
theorem dX2_largest_39 : decode cX2_largest 39 = .ok (.ifCond .eq 5, 3) := by decide +kernel
theorem dX2_largest_42 : decode cX2_largest 42 = .ok (.iconst 0, 1) := by decide +kernel
theorem dX2_largest_43 : decode cX2_largest 43 = .ok (.ireturn, 1) := by decide +kernel
theorem dX2_largest_44 : decode cX2_largest 44 = .ok (.iinc 2 1, 3) := by decide +kernel
theorem dX2_largest_47 : decode cX2_largest 47 = .ok (.goto (-35), 3) := by decide +kernel
theorem dX2_largest_50 : decode cX2_largest 50 = .ok (.iconst 1, 1) := by decide +kernel
theorem dX2_largest_51 : decode cX2_largest 51 = .ok (.ireturn, 1) := by decide +kernel
abbrev cX2_maximal : ByteArray := prog_3_method_22_code
def yX2_maximal : MethodName := ⟨RX2, "maximal", "(I)I"⟩
theorem dX2_maximal_0 : decode cX2_maximal 0 = .ok (.aload_n 0, 1) := by decide +kernel
theorem dX2_maximal_1 : decode cX2_maximal 1 = .ok (.invokevirtual 59, 3) := by decide +kernel
theorem dX2_maximal_4 : decode cX2_maximal 4 = .ok (.iconst 0, 1) := by decide +kernel
theorem dX2_maximal_5 : decode cX2_maximal 5 = .ok (.istore_n 2, 1) := by decide +kernel
theorem dX2_maximal_6 : decode cX2_maximal 6 = .ok (.iconst 1, 1) := by decide +kernel
theorem dX2_maximal_7 : decode cX2_maximal 7 = .ok (.istore_n 3, 1) := by decide +kernel
theorem dX2_maximal_8 : decode cX2_maximal 8 = .ok (.iload_n 3, 1) := by decide +kernel
theorem dX2_maximal_9 : decode cX2_maximal 9 = .ok (.iconst 1, 1) := by decide +kernel
theorem dX2_maximal_10 : decode cX2_maximal 10 = .ok (.aload_n 0, 1) := by decide +kernel
theorem dX2_maximal_11 : decode cX2_maximal 11 = .ok (.getfield 20, 3) := by decide +kernel
theorem dX2_maximal_14 : decode cX2_maximal 14 = .ok (.ishl, 1) := by decide +kernel
theorem dX2_maximal_15 : decode cX2_maximal 15 = .ok (.if_icmp .ge 27, 3) := by decide +kernel
theorem dX2_maximal_18 : decode cX2_maximal 18 = .ok (.aload_n 0, 1) := by decide +kernel
theorem dX2_maximal_19 : decode cX2_maximal 19 = .ok (.iload_n 3, 1) := by decide +kernel
theorem dX2_maximal_20 : decode cX2_maximal 20 = .ok (.invokevirtual 65, 3) := by decide +kernel
theorem dX2_maximal_23 : decode cX2_maximal 23 = .ok (.ifCond .eq 13, 3) := by decide +kernel
theorem dX2_maximal_26 : decode cX2_maximal 26 = .ok (.iload_n 2, 1) := by decide +kernel
theorem dX2_maximal_27 : decode cX2_maximal 27 = .ok (.iload_n 1, 1) := by decide +kernel
theorem dX2_maximal_28 : decode cX2_maximal 28 = .ok (.if_icmp .ne 5, 3) := by decide +kernel
theorem dX2_maximal_31 : decode cX2_maximal 31 = .ok (.iload_n 3, 1) := by decide +kernel
theorem dX2_maximal_32 : decode cX2_maximal 32 = .ok (.ireturn, 1) := by decide +kernel
theorem dX2_maximal_33 : decode cX2_maximal 33 = .ok (.iinc 2 1, 3) := by decide +kernel
theorem dX2_maximal_36 : decode cX2_maximal 36 = .ok (.iinc 3 1, 3) := by decide +kernel
theorem dX2_maximal_39 : decode cX2_maximal 39 = .ok (.goto (-31), 3) := by decide +kernel
theorem dX2_maximal_42 : decode cX2_maximal 42 = .ok (.iconst (-1), 1) := by decide +kernel
theorem dX2_maximal_43 : decode cX2_maximal 43 = .ok (.ireturn, 1) := by decide +kernel
abbrev cX2_implied : ByteArray := prog_3_method_24_code
def yX2_implied : MethodName := ⟨RX2, "implied", "(II)I"⟩
theorem dX2_implied_0 : decode cX2_implied 0 = .ok (.aload_n 0, 1) := by decide +kernel
theorem dX2_implied_1 : decode cX2_implied 1 = .ok (.iload_n 1, 1) := by decide +kernel
theorem dX2_implied_2 : decode cX2_implied 2 = .ok (.invokevirtual 56, 3) := by decide +kernel
theorem dX2_implied_5 : decode cX2_implied 5 = .ok (.ifCond .eq 5, 3) := by decide +kernel
theorem dX2_implied_8 : decode cX2_implied 8 = .ok (.iconst (-1), 1) := by decide +kernel
theorem dX2_implied_9 : decode cX2_implied 9 = .ok (.ireturn, 1) := by decide +kernel
theorem dX2_implied_10 : decode cX2_implied 10 = .ok (.aload_n 0, 1) := by decide +kernel
theorem dX2_implied_11 : decode cX2_implied 11 = .ok (.iload_n 2, 1) := by decide +kernel
theorem dX2_implied_12 : decode cX2_implied 12 = .ok (.invokevirtual 28, 3) := by decide +kernel
theorem dX2_implied_15 : decode cX2_implied 15 = .ok (.ifCond .eq 6, 3) := by decide +kernel
theorem dX2_implied_18 : decode cX2_implied 18 = .ok (.bipush (-2), 2) := by decide +kernel
theorem dX2_implied_20 : decode cX2_implied 20 = .ok (.ireturn, 1) := by decide +kernel
theorem dX2_implied_21 : decode cX2_implied 21 = .ok (.aload_n 0, 1) := by decide +kernel
theorem dX2_implied_22 : decode cX2_implied 22 = .ok (.iload_n 1, 1) := by decide +kernel
theorem dX2_implied_23 : decode cX2_implied 23 = .ok (.iload_n 2, 1) := by decide +kernel
theorem dX2_implied_24 : decode cX2_implied 24 = .ok (.invokevirtual 68, 3) := by decide +kernel
theorem dX2_implied_27 : decode cX2_implied 27 = .ok (.ireturn, 1) := by decide +kernel
abbrev cX2_image : ByteArray := prog_3_method_23_code
def yX2_image : MethodName := ⟨RX2, "image", "(II)I"⟩
theorem dX2_image_0 : decode cX2_image 0 = .ok (.iconst 0, 1) := by decide +kernel
theorem dX2_image_1 : decode cX2_image 1 = .ok (.istore_n 3, 1) := by decide +kernel
theorem dX2_image_2 : decode cX2_image 2 = .ok (.iconst 0, 1) := by decide +kernel
theorem dX2_image_3 : decode cX2_image 3 = .ok (.istore 4, 2) := by decide +kernel
theorem dX2_image_5 : decode cX2_image 5 = .ok (.iload 4, 2) := by decide +kernel
theorem dX2_image_7 : decode cX2_image 7 = .ok (.aload_n 0, 1) := by decide +kernel
theorem dX2_image_8 : decode cX2_image 8 = .ok (.getfield 20, 3) := by decide +kernel
theorem dX2_image_11 : decode cX2_image 11 = .ok (.if_icmp .ge 47, 3) := by decide +kernel
theorem dX2_image_14 : decode cX2_image 14 = .ok (.iload 4, 2) := by decide +kernel
theorem dX2_image_16 : decode cX2_image 16 = .ok (.iconst 5, 1) := by decide +kernel
theorem dX2_image_17 : decode cX2_image 17 = .ok (.if_icmp .ge 41, 3) := by decide +kernel
theorem dX2_image_20 : decode cX2_image 20 = .ok (.aload_n 0, 1) := by decide +kernel
theorem dX2_image_21 : decode cX2_image 21 = .ok (.iload 4, 2) := by decide +kernel
theorem dX2_image_23 : decode cX2_image 23 = .ok (.iload_n 2, 1) := by decide +kernel
theorem dX2_image_24 : decode cX2_image 24 = .ok (.invokevirtual 34, 3) := by decide +kernel
theorem dX2_image_27 : decode cX2_image 27 = .ok (.istore 5, 2) := by decide +kernel
theorem dX2_image_29 : decode cX2_image 29 = .ok (.aload_n 0, 1) := by decide +kernel
theorem dX2_image_30 : decode cX2_image 30 = .ok (.iload_n 1, 1) := by decide +kernel
theorem dX2_image_31 : decode cX2_image 31 = .ok (.iload 4, 2) := by decide +kernel
theorem dX2_image_33 : decode cX2_image 33 = .ok (.invokevirtual 52, 3) := by decide +kernel
theorem dX2_image_36 : decode cX2_image 36 = .ok (.ifCond .eq 16, 3) := by decide +kernel
theorem dX2_image_39 : decode cX2_image 39 = .ok (.iload 5, 2) := by decide +kernel
theorem dX2_image_41 : decode cX2_image 41 = .ok (.iconst (-1), 1) := by decide +kernel
theorem dX2_image_42 : decode cX2_image 42 = .ok (.if_icmp .eq 10, 3) := by decide +kernel
theorem dX2_image_45 : decode cX2_image 45 = .ok (.iload_n 3, 1) := by decide +kernel
theorem dX2_image_46 : decode cX2_image 46 = .ok (.iconst 1, 1) := by decide +kernel
theorem dX2_image_47 : decode cX2_image 47 = .ok (.iload 5, 2) := by decide +kernel
theorem dX2_image_49 : decode cX2_image 49 = .ok (.ishl, 1) := by decide +kernel
theorem dX2_image_50 : decode cX2_image 50 = .ok (.ior, 1) := by decide +kernel
theorem dX2_image_51 : decode cX2_image 51 = .ok (.istore_n 3, 1) := by decide +kernel
theorem dX2_image_52 : decode cX2_image 52 = .ok (.iinc 4 1, 3) := by decide +kernel
theorem dX2_image_55 : decode cX2_image 55 = .ok (.goto (-50), 3) := by decide +kernel
theorem dX2_image_58 : decode cX2_image 58 = .ok (.iload_n 3, 1) := by decide +kernel
theorem dX2_image_59 : decode cX2_image 59 = .ok (.ireturn, 1) := by decide +kernel
abbrev cX2_coverSize : ByteArray := prog_3_method_31_code
def yX2_coverSize : MethodName := ⟨RX2, "coverSize", "()I"⟩
theorem dX2_coverSize_0 : decode cX2_coverSize 0 = .ok (.aload_n 0, 1) := by decide +kernel
theorem dX2_coverSize_1 : decode cX2_coverSize 1 = .ok (.invokevirtual 92, 3) := by decide +kernel
theorem dX2_coverSize_4 : decode cX2_coverSize 4 = .ok (.aload_n 0, 1) := by decide +kernel
theorem dX2_coverSize_5 : decode cX2_coverSize 5 = .ok (.getfield 71, 3) := by decide +kernel
theorem dX2_coverSize_8 : decode cX2_coverSize 8 = .ok (.ireturn, 1) := by decide +kernel
abbrev cX2_best : ByteArray := prog_3_method_30_code
def yX2_best : MethodName := ⟨RX2, "best", "()V"⟩
theorem dX2_best_0 : decode cX2_best 0 = .ok (.aload_n 0, 1) := by decide +kernel
theorem dX2_best_1 : decode cX2_best 1 = .ok (.invokevirtual 59, 3) := by decide +kernel
theorem dX2_best_4 : decode cX2_best 4 = .ok (.iconst 1, 1) := by decide +kernel
theorem dX2_best_5 : decode cX2_best 5 = .ok (.istore_n 1, 1) := by decide +kernel
theorem dX2_best_6 : decode cX2_best 6 = .ok (.iload_n 1, 1) := by decide +kernel
theorem dX2_best_7 : decode cX2_best 7 = .ok (.aload_n 0, 1) := by decide +kernel
theorem dX2_best_8 : decode cX2_best 8 = .ok (.getfield 20, 3) := by decide +kernel
theorem dX2_best_11 : decode cX2_best 11 = .ok (.if_icmp .gt 67, 3) := by decide +kernel
theorem dX2_best_14 : decode cX2_best 14 = .ok (.iload_n 1, 1) := by decide +kernel
theorem dX2_best_15 : decode cX2_best 15 = .ok (.iconst 5, 1) := by decide +kernel
theorem dX2_best_16 : decode cX2_best 16 = .ok (.if_icmp .gt 62, 3) := by decide +kernel
theorem dX2_best_19 : decode cX2_best 19 = .ok (.aload_n 0, 1) := by decide +kernel
theorem dX2_best_20 : decode cX2_best 20 = .ok (.iload_n 1, 1) := by decide +kernel
theorem dX2_best_21 : decode cX2_best 21 = .ok (.putfield 71, 3) := by decide +kernel
theorem dX2_best_24 : decode cX2_best 24 = .ok (.aload_n 0, 1) := by decide +kernel
theorem dX2_best_25 : decode cX2_best 25 = .ok (.iconst 0, 1) := by decide +kernel
theorem dX2_best_26 : decode cX2_best 26 = .ok (.iload_n 1, 1) := by decide +kernel
theorem dX2_best_27 : decode cX2_best 27 = .ok (.invokevirtual 77, 3) := by decide +kernel
theorem dX2_best_30 : decode cX2_best 30 = .ok (.istore_n 2, 1) := by decide +kernel
theorem dX2_best_31 : decode cX2_best 31 = .ok (.iload_n 2, 1) := by decide +kernel
theorem dX2_best_32 : decode cX2_best 32 = .ok (.ifCond .eq 9, 3) := by decide +kernel
theorem dX2_best_35 : decode cX2_best 35 = .ok (.aload_n 0, 1) := by decide +kernel
theorem dX2_best_36 : decode cX2_best 36 = .ok (.iconst 0, 1) := by decide +kernel
theorem dX2_best_37 : decode cX2_best 37 = .ok (.iconst 1, 1) := by decide +kernel
theorem dX2_best_38 : decode cX2_best 38 = .ok (.invokevirtual 80, 3) := by decide +kernel
theorem dX2_best_41 : decode cX2_best 41 = .ok (.iconst 0, 1) := by decide +kernel
theorem dX2_best_42 : decode cX2_best 42 = .ok (.istore_n 3, 1) := by decide +kernel
theorem dX2_best_43 : decode cX2_best 43 = .ok (.iload_n 3, 1) := by decide +kernel
theorem dX2_best_44 : decode cX2_best 44 = .ok (.ldc 84, 2) := by decide +kernel
theorem dX2_best_46 : decode cX2_best 46 = .ok (.if_icmp .ge 26, 3) := by decide +kernel
theorem dX2_best_49 : decode cX2_best 49 = .ok (.iload_n 2, 1) := by decide +kernel
theorem dX2_best_50 : decode cX2_best 50 = .ok (.ifCond .eq 22, 3) := by decide +kernel
theorem dX2_best_53 : decode cX2_best 53 = .ok (.aload_n 0, 1) := by decide +kernel
theorem dX2_best_54 : decode cX2_best 54 = .ok (.invokevirtual 85, 3) := by decide +kernel
theorem dX2_best_57 : decode cX2_best 57 = .ok (.ifCond .eq 4, 3) := by decide +kernel
theorem dX2_best_60 : decode cX2_best 60 = .ok (.return_, 1) := by decide +kernel
theorem dX2_best_61 : decode cX2_best 61 = .ok (.aload_n 0, 1) := by decide +kernel
theorem dX2_best_62 : decode cX2_best 62 = .ok (.invokevirtual 89, 3) := by decide +kernel
theorem dX2_best_65 : decode cX2_best 65 = .ok (.istore_n 2, 1) := by decide +kernel
theorem dX2_best_66 : decode cX2_best 66 = .ok (.iinc 3 1, 3) := by decide +kernel
theorem dX2_best_69 : decode cX2_best 69 = .ok (.goto (-26), 3) := by decide +kernel
theorem dX2_best_72 : decode cX2_best 72 = .ok (.iinc 1 1, 3) := by decide +kernel
theorem dX2_best_75 : decode cX2_best 75 = .ok (.goto (-69), 3) := by decide +kernel
theorem dX2_best_78 : decode cX2_best 78 = .ok (.return_, 1) := by decide +kernel
abbrev cX2_room : ByteArray := prog_3_method_28_code
def yX2_room : MethodName := ⟨RX2, "room", "(II)Z"⟩
theorem dX2_room_0 : decode cX2_room 0 = .ok (.iconst 0, 1) := by decide +kernel
theorem dX2_room_1 : decode cX2_room 1 = .ok (.istore_n 3, 1) := by decide +kernel
theorem dX2_room_2 : decode cX2_room 2 = .ok (.iload_n 1, 1) := by decide +kernel
theorem dX2_room_3 : decode cX2_room 3 = .ok (.iconst 1, 1) := by decide +kernel
theorem dX2_room_4 : decode cX2_room 4 = .ok (.iadd, 1) := by decide +kernel
theorem dX2_room_5 : decode cX2_room 5 = .ok (.istore 4, 2) := by decide +kernel
theorem dX2_room_7 : decode cX2_room 7 = .ok (.iload 4, 2) := by decide +kernel
theorem dX2_room_9 : decode cX2_room 9 = .ok (.iconst 1, 1) := by decide +kernel
theorem dX2_room_10 : decode cX2_room 10 = .ok (.aload_n 0, 1) := by decide +kernel
theorem dX2_room_11 : decode cX2_room 11 = .ok (.getfield 20, 3) := by decide +kernel
theorem dX2_room_14 : decode cX2_room 14 = .ok (.ishl, 1) := by decide +kernel
theorem dX2_room_15 : decode cX2_room 15 = .ok (.if_icmp .ge 21, 3) := by decide +kernel
theorem dX2_room_18 : decode cX2_room 18 = .ok (.aload_n 0, 1) := by decide +kernel
theorem dX2_room_19 : decode cX2_room 19 = .ok (.iload 4, 2) := by decide +kernel
theorem dX2_room_21 : decode cX2_room 21 = .ok (.invokevirtual 62, 3) := by decide +kernel
theorem dX2_room_24 : decode cX2_room 24 = .ok (.ifCond .eq 6, 3) := by decide +kernel
theorem dX2_room_27 : decode cX2_room 27 = .ok (.iinc 3 1, 3) := by decide +kernel
theorem dX2_room_30 : decode cX2_room 30 = .ok (.iinc 4 1, 3) := by decide +kernel
theorem dX2_room_33 : decode cX2_room 33 = .ok (.goto (-26), 3) := by decide +kernel
theorem dX2_room_36 : decode cX2_room 36 = .ok (.iload_n 3, 1) := by decide +kernel
theorem dX2_room_37 : decode cX2_room 37 = .ok (.iload_n 2, 1) := by decide +kernel
theorem dX2_room_38 : decode cX2_room 38 = .ok (.if_icmp .lt 7, 3) := by decide +kernel
theorem dX2_room_41 : decode cX2_room 41 = .ok (.iconst 1, 1) := by decide +kernel
theorem dX2_room_42 : decode cX2_room 42 = .ok (.goto 4, 3) := by decide +kernel
theorem dX2_room_45 : decode cX2_room 45 = .ok (.iconst 0, 1) := by decide +kernel
theorem dX2_room_46 : decode cX2_room 46 = .ok (.ireturn, 1) := by decide +kernel
abbrev cX2_place : ByteArray := prog_3_method_29_code
def yX2_place : MethodName := ⟨RX2, "place", "(II)V"⟩
theorem dX2_place_0 : decode cX2_place 0 = .ok (.iload_n 1, 1) := by decide +kernel
theorem dX2_place_1 : decode cX2_place 1 = .ok (.istore_n 3, 1) := by decide +kernel
theorem dX2_place_2 : decode cX2_place 2 = .ok (.iload_n 2, 1) := by decide +kernel
theorem dX2_place_3 : decode cX2_place 3 = .ok (.istore 4, 2) := by decide +kernel
theorem dX2_place_5 : decode cX2_place 5 = .ok (.iload 4, 2) := by decide +kernel
theorem dX2_place_7 : decode cX2_place 7 = .ok (.iconst 1, 1) := by decide +kernel
theorem dX2_place_8 : decode cX2_place 8 = .ok (.aload_n 0, 1) := by decide +kernel
theorem dX2_place_9 : decode cX2_place 9 = .ok (.getfield 20, 3) := by decide +kernel
theorem dX2_place_12 : decode cX2_place 12 = .ok (.ishl, 1) := by decide +kernel
theorem dX2_place_13 : decode cX2_place 13 = .ok (.if_icmp .ge 42, 3) := by decide +kernel
theorem dX2_place_16 : decode cX2_place 16 = .ok (.iload_n 3, 1) := by decide +kernel
theorem dX2_place_17 : decode cX2_place 17 = .ok (.aload_n 0, 1) := by decide +kernel
theorem dX2_place_18 : decode cX2_place 18 = .ok (.getfield 71, 3) := by decide +kernel
theorem dX2_place_21 : decode cX2_place 21 = .ok (.if_icmp .ge 28, 3) := by decide +kernel
theorem dX2_place_24 : decode cX2_place 24 = .ok (.iload_n 3, 1) := by decide +kernel
theorem dX2_place_25 : decode cX2_place 25 = .ok (.iconst 5, 1) := by decide +kernel
theorem dX2_place_26 : decode cX2_place 26 = .ok (.if_icmp .ge 23, 3) := by decide +kernel
theorem dX2_place_29 : decode cX2_place 29 = .ok (.aload_n 0, 1) := by decide +kernel
theorem dX2_place_30 : decode cX2_place 30 = .ok (.iload 4, 2) := by decide +kernel
theorem dX2_place_32 : decode cX2_place 32 = .ok (.invokevirtual 62, 3) := by decide +kernel
theorem dX2_place_35 : decode cX2_place 35 = .ok (.ifCond .eq 14, 3) := by decide +kernel
theorem dX2_place_38 : decode cX2_place 38 = .ok (.aload_n 0, 1) := by decide +kernel
theorem dX2_place_39 : decode cX2_place 39 = .ok (.getfield 17, 3) := by decide +kernel
theorem dX2_place_42 : decode cX2_place 42 = .ok (.iload_n 3, 1) := by decide +kernel
theorem dX2_place_43 : decode cX2_place 43 = .ok (.iload 4, 2) := by decide +kernel
theorem dX2_place_45 : decode cX2_place 45 = .ok (.iastore, 1) := by decide +kernel
theorem dX2_place_46 : decode cX2_place 46 = .ok (.iinc 3 1, 3) := by decide +kernel
theorem dX2_place_49 : decode cX2_place 49 = .ok (.iinc 4 1, 3) := by decide +kernel
theorem dX2_place_52 : decode cX2_place 52 = .ok (.goto (-47), 3) := by decide +kernel
theorem dX2_place_55 : decode cX2_place 55 = .ok (.return_, 1) := by decide +kernel
abbrev cX2_covers : ByteArray := prog_3_method_26_code
def yX2_covers : MethodName := ⟨RX2, "covers", "()Z"⟩
theorem dX2_covers_0 : decode cX2_covers 0 = .ok (.iconst 0, 1) := by decide +kernel
theorem dX2_covers_1 : decode cX2_covers 1 = .ok (.istore_n 1, 1) := by decide +kernel
theorem dX2_covers_2 : decode cX2_covers 2 = .ok (.iconst 0, 1) := by decide +kernel
theorem dX2_covers_3 : decode cX2_covers 3 = .ok (.istore_n 2, 1) := by decide +kernel
theorem dX2_covers_4 : decode cX2_covers 4 = .ok (.iload_n 2, 1) := by decide +kernel
theorem dX2_covers_5 : decode cX2_covers 5 = .ok (.aload_n 0, 1) := by decide +kernel
theorem dX2_covers_6 : decode cX2_covers 6 = .ok (.getfield 71, 3) := by decide +kernel
theorem dX2_covers_9 : decode cX2_covers 9 = .ok (.if_icmp .ge 75, 3) := by decide +kernel
theorem dX2_covers_12 : decode cX2_covers 12 = .ok (.iload_n 2, 1) := by decide +kernel
theorem dX2_covers_13 : decode cX2_covers 13 = .ok (.iconst 5, 1) := by decide +kernel
theorem dX2_covers_14 : decode cX2_covers 14 = .ok (.if_icmp .ge 70, 3) := by decide +kernel
theorem dX2_covers_17 : decode cX2_covers 17 = .ok (.aload_n 0, 1) := by decide +kernel
theorem dX2_covers_18 : decode cX2_covers 18 = .ok (.aload_n 0, 1) := by decide +kernel
theorem dX2_covers_19 : decode cX2_covers 19 = .ok (.getfield 17, 3) := by decide +kernel
theorem dX2_covers_22 : decode cX2_covers 22 = .ok (.iload_n 2, 1) := by decide +kernel
theorem dX2_covers_23 : decode cX2_covers 23 = .ok (.iaload, 1) := by decide +kernel
theorem dX2_covers_24 : decode cX2_covers 24 = .ok (.invokevirtual 62, 3) := by decide +kernel
theorem dX2_covers_27 : decode cX2_covers 27 = .ok (.ifCond .ne 5, 3) := by decide +kernel
theorem dX2_covers_30 : decode cX2_covers 30 = .ok (.iconst 0, 1) := by decide +kernel
theorem dX2_covers_31 : decode cX2_covers 31 = .ok (.ireturn, 1) := by decide +kernel
theorem dX2_covers_32 : decode cX2_covers 32 = .ok (.iload_n 1, 1) := by decide +kernel
theorem dX2_covers_33 : decode cX2_covers 33 = .ok (.aload_n 0, 1) := by decide +kernel
theorem dX2_covers_34 : decode cX2_covers 34 = .ok (.getfield 17, 3) := by decide +kernel
theorem dX2_covers_37 : decode cX2_covers 37 = .ok (.iload_n 2, 1) := by decide +kernel
theorem dX2_covers_38 : decode cX2_covers 38 = .ok (.iaload, 1) := by decide +kernel
theorem dX2_covers_39 : decode cX2_covers 39 = .ok (.ior, 1) := by decide +kernel
theorem dX2_covers_40 : decode cX2_covers 40 = .ok (.istore_n 1, 1) := by decide +kernel
theorem dX2_covers_41 : decode cX2_covers 41 = .ok (.iconst 0, 1) := by decide +kernel
theorem dX2_covers_42 : decode cX2_covers 42 = .ok (.istore_n 3, 1) := by decide +kernel
theorem dX2_covers_43 : decode cX2_covers 43 = .ok (.iload_n 3, 1) := by decide +kernel
theorem dX2_covers_44 : decode cX2_covers 44 = .ok (.iconst 2, 1) := by decide +kernel
theorem dX2_covers_45 : decode cX2_covers 45 = .ok (.if_icmp .ge 33, 3) := by decide +kernel
theorem dX2_covers_48 : decode cX2_covers 48 = .ok (.aload_n 0, 1) := by decide +kernel
theorem dX2_covers_49 : decode cX2_covers 49 = .ok (.aload_n 0, 1) := by decide +kernel
theorem dX2_covers_50 : decode cX2_covers 50 = .ok (.getfield 17, 3) := by decide +kernel
theorem dX2_covers_53 : decode cX2_covers 53 = .ok (.iload_n 2, 1) := by decide +kernel
theorem dX2_covers_54 : decode cX2_covers 54 = .ok (.iaload, 1) := by decide +kernel
theorem dX2_covers_55 : decode cX2_covers 55 = .ok (.iload_n 3, 1) := by decide +kernel
theorem dX2_covers_56 : decode cX2_covers 56 = .ok (.invokevirtual 68, 3) := by decide +kernel
theorem dX2_covers_59 : decode cX2_covers 59 = .ok (.istore 4, 2) := by decide +kernel
theorem dX2_covers_61 : decode cX2_covers 61 = .ok (.aload_n 0, 1) := by decide +kernel
theorem dX2_covers_62 : decode cX2_covers 62 = .ok (.iload 4, 2) := by decide +kernel
theorem dX2_covers_64 : decode cX2_covers 64 = .ok (.invokevirtual 74, 3) := by decide +kernel
theorem dX2_covers_67 : decode cX2_covers 67 = .ok (.ifCond .ne 5, 3) := by decide +kernel
theorem dX2_covers_70 : decode cX2_covers 70 = .ok (.iconst 0, 1) := by decide +kernel
theorem dX2_covers_71 : decode cX2_covers 71 = .ok (.ireturn, 1) := by decide +kernel
theorem dX2_covers_72 : decode cX2_covers 72 = .ok (.iinc 3 1, 3) := by decide +kernel
theorem dX2_covers_75 : decode cX2_covers 75 = .ok (.goto (-32), 3) := by decide +kernel
theorem dX2_covers_78 : decode cX2_covers 78 = .ok (.iinc 2 1, 3) := by decide +kernel
theorem dX2_covers_81 : decode cX2_covers 81 = .ok (.goto (-77), 3) := by decide +kernel
theorem dX2_covers_84 : decode cX2_covers 84 = .ok (.iload_n 1, 1) := by decide +kernel
theorem dX2_covers_85 : decode cX2_covers 85 = .ok (.iconst 1, 1) := by decide +kernel
theorem dX2_covers_86 : decode cX2_covers 86 = .ok (.aload_n 0, 1) := by decide +kernel
theorem dX2_covers_87 : decode cX2_covers 87 = .ok (.getfield 20, 3) := by decide +kernel
theorem dX2_covers_90 : decode cX2_covers 90 = .ok (.ishl, 1) := by decide +kernel
theorem dX2_covers_91 : decode cX2_covers 91 = .ok (.iconst 1, 1) := by decide +kernel
theorem dX2_covers_92 : decode cX2_covers 92 = .ok (.isub, 1) := by decide +kernel
theorem dX2_covers_93 : decode cX2_covers 93 = .ok (.if_icmp .ne 7, 3) := by decide +kernel
theorem dX2_covers_96 : decode cX2_covers 96 = .ok (.iconst 1, 1) := by decide +kernel
theorem dX2_covers_97 : decode cX2_covers 97 = .ok (.goto 4, 3) := by decide +kernel
theorem dX2_covers_100 : decode cX2_covers 100 = .ok (.iconst 0, 1) := by decide +kernel
theorem dX2_covers_101 : decode cX2_covers 101 = .ok (.ireturn, 1) := by decide +kernel
abbrev cX2_within : ByteArray := prog_3_method_25_code
def yX2_within : MethodName := ⟨RX2, "within", "(I)Z"⟩
theorem dX2_within_0 : decode cX2_within 0 = .ok (.iconst 0, 1) := by decide +kernel
theorem dX2_within_1 : decode cX2_within 1 = .ok (.istore_n 2, 1) := by decide +kernel
theorem dX2_within_2 : decode cX2_within 2 = .ok (.iload_n 2, 1) := by decide +kernel
theorem dX2_within_3 : decode cX2_within 3 = .ok (.aload_n 0, 1) := by decide +kernel
theorem dX2_within_4 : decode cX2_within 4 = .ok (.getfield 71, 3) := by decide +kernel
theorem dX2_within_7 : decode cX2_within 7 = .ok (.if_icmp .ge 28, 3) := by decide +kernel
theorem dX2_within_10 : decode cX2_within 10 = .ok (.iload_n 2, 1) := by decide +kernel
theorem dX2_within_11 : decode cX2_within 11 = .ok (.iconst 5, 1) := by decide +kernel
theorem dX2_within_12 : decode cX2_within 12 = .ok (.if_icmp .ge 23, 3) := by decide +kernel
theorem dX2_within_15 : decode cX2_within 15 = .ok (.aload_n 0, 1) := by decide +kernel
theorem dX2_within_16 : decode cX2_within 16 = .ok (.getfield 17, 3) := by decide +kernel
theorem dX2_within_19 : decode cX2_within 19 = .ok (.iload_n 2, 1) := by decide +kernel
theorem dX2_within_20 : decode cX2_within 20 = .ok (.iaload, 1) := by decide +kernel
theorem dX2_within_21 : decode cX2_within 21 = .ok (.iload_n 1, 1) := by decide +kernel
theorem dX2_within_22 : decode cX2_within 22 = .ok (.iand, 1) := by decide +kernel
theorem dX2_within_23 : decode cX2_within 23 = .ok (.iload_n 1, 1) := by decide +kernel
theorem dX2_within_24 : decode cX2_within 24 = .ok (.if_icmp .ne 5, 3) := by decide +kernel
theorem dX2_within_27 : decode cX2_within 27 = .ok (.iconst 1, 1) := by decide +kernel
theorem dX2_within_28 : decode cX2_within 28 = .ok (.ireturn, 1) := by decide +kernel
theorem dX2_within_29 : decode cX2_within 29 = .ok (.iinc 2 1, 3) := by decide +kernel
theorem dX2_within_32 : decode cX2_within 32 = .ok (.goto (-30), 3) := by decide +kernel
theorem dX2_within_35 : decode cX2_within 35 = .ok (.iconst 0, 1) := by decide +kernel
theorem dX2_within_36 : decode cX2_within 36 = .ok (.ireturn, 1) := by decide +kernel
abbrev cX2_advance : ByteArray := prog_3_method_27_code
def yX2_advance : MethodName := ⟨RX2, "advance", "()Z"⟩
theorem dX2_advance_0 : decode cX2_advance 0 = .ok (.aload_n 0, 1) := by decide +kernel
theorem dX2_advance_1 : decode cX2_advance 1 = .ok (.getfield 71, 3) := by decide +kernel
theorem dX2_advance_4 : decode cX2_advance 4 = .ok (.iconst 1, 1) := by decide +kernel
theorem dX2_advance_5 : decode cX2_advance 5 = .ok (.isub, 1) := by decide +kernel
theorem dX2_advance_6 : decode cX2_advance 6 = .ok (.istore_n 1, 1) := by decide +kernel
theorem dX2_advance_7 : decode cX2_advance 7 = .ok (.iload_n 1, 1) := by decide +kernel
theorem dX2_advance_8 : decode cX2_advance 8 = .ok (.ifCond .lt 91, 3) := by decide +kernel
theorem dX2_advance_11 : decode cX2_advance 11 = .ok (.iload_n 1, 1) := by decide +kernel
theorem dX2_advance_12 : decode cX2_advance 12 = .ok (.aload_n 0, 1) := by decide +kernel
theorem dX2_advance_13 : decode cX2_advance 13 = .ok (.getfield 71, 3) := by decide +kernel
theorem dX2_advance_16 : decode cX2_advance 16 = .ok (.iconst 1, 1) := by decide +kernel
theorem dX2_advance_17 : decode cX2_advance 17 = .ok (.isub, 1) := by decide +kernel
theorem dX2_advance_18 : decode cX2_advance 18 = .ok (.if_icmp .ge 16, 3) := by decide +kernel
theorem dX2_advance_21 : decode cX2_advance 21 = .ok (.aload_n 0, 1) := by decide +kernel
theorem dX2_advance_22 : decode cX2_advance 22 = .ok (.getfield 17, 3) := by decide +kernel
theorem dX2_advance_25 : decode cX2_advance 25 = .ok (.iload_n 1, 1) := by decide +kernel
theorem dX2_advance_26 : decode cX2_advance 26 = .ok (.iconst 1, 1) := by decide +kernel
theorem dX2_advance_27 : decode cX2_advance 27 = .ok (.iadd, 1) := by decide +kernel
theorem dX2_advance_28 : decode cX2_advance 28 = .ok (.iconst 5, 1) := by decide +kernel
theorem dX2_advance_29 : decode cX2_advance 29 = .ok (.irem, 1) := by decide +kernel
theorem dX2_advance_30 : decode cX2_advance 30 = .ok (.iaload, 1) := by decide +kernel
theorem dX2_advance_31 : decode cX2_advance 31 = .ok (.goto 9, 3) := by decide +kernel
theorem dX2_advance_34 : decode cX2_advance 34 = .ok (.iconst 1, 1) := by decide +kernel
theorem dX2_advance_35 : decode cX2_advance 35 = .ok (.aload_n 0, 1) := by decide +kernel
theorem dX2_advance_36 : decode cX2_advance 36 = .ok (.getfield 20, 3) := by decide +kernel
theorem dX2_advance_39 : decode cX2_advance 39 = .ok (.ishl, 1) := by decide +kernel
theorem dX2_advance_40 : decode cX2_advance 40 = .ok (.istore_n 2, 1) := by decide +kernel
theorem dX2_advance_41 : decode cX2_advance 41 = .ok (.aload_n 0, 1) := by decide +kernel
theorem dX2_advance_42 : decode cX2_advance 42 = .ok (.getfield 17, 3) := by decide +kernel
theorem dX2_advance_45 : decode cX2_advance 45 = .ok (.iload_n 1, 1) := by decide +kernel
theorem dX2_advance_46 : decode cX2_advance 46 = .ok (.iaload, 1) := by decide +kernel
theorem dX2_advance_47 : decode cX2_advance 47 = .ok (.iconst 1, 1) := by decide +kernel
theorem dX2_advance_48 : decode cX2_advance 48 = .ok (.iadd, 1) := by decide +kernel
theorem dX2_advance_49 : decode cX2_advance 49 = .ok (.istore_n 3, 1) := by decide +kernel
theorem dX2_advance_50 : decode cX2_advance 50 = .ok (.iload_n 3, 1) := by decide +kernel
theorem dX2_advance_51 : decode cX2_advance 51 = .ok (.iload_n 2, 1) := by decide +kernel
theorem dX2_advance_52 : decode cX2_advance 52 = .ok (.if_icmp .ge 41, 3) := by decide +kernel
theorem dX2_advance_55 : decode cX2_advance 55 = .ok (.aload_n 0, 1) := by decide +kernel
theorem dX2_advance_56 : decode cX2_advance 56 = .ok (.iload_n 3, 1) := by decide +kernel
theorem dX2_advance_57 : decode cX2_advance 57 = .ok (.invokevirtual 62, 3) := by decide +kernel
theorem dX2_advance_60 : decode cX2_advance 60 = .ok (.ifCond .eq 27, 3) := by decide +kernel
theorem dX2_advance_63 : decode cX2_advance 63 = .ok (.aload_n 0, 1) := by decide +kernel
theorem dX2_advance_64 : decode cX2_advance 64 = .ok (.iload_n 3, 1) := by decide +kernel
theorem dX2_advance_65 : decode cX2_advance 65 = .ok (.aload_n 0, 1) := by decide +kernel
theorem dX2_advance_66 : decode cX2_advance 66 = .ok (.getfield 71, 3) := by decide +kernel
theorem dX2_advance_69 : decode cX2_advance 69 = .ok (.iconst 1, 1) := by decide +kernel
theorem dX2_advance_70 : decode cX2_advance 70 = .ok (.isub, 1) := by decide +kernel
theorem dX2_advance_71 : decode cX2_advance 71 = .ok (.iload_n 1, 1) := by decide +kernel
theorem dX2_advance_72 : decode cX2_advance 72 = .ok (.isub, 1) := by decide +kernel
theorem dX2_advance_73 : decode cX2_advance 73 = .ok (.invokevirtual 77, 3) := by decide +kernel
theorem dX2_advance_76 : decode cX2_advance 76 = .ok (.ifCond .eq 11, 3) := by decide +kernel
theorem dX2_advance_79 : decode cX2_advance 79 = .ok (.aload_n 0, 1) := by decide +kernel
theorem dX2_advance_80 : decode cX2_advance 80 = .ok (.iload_n 1, 1) := by decide +kernel
theorem dX2_advance_81 : decode cX2_advance 81 = .ok (.iload_n 3, 1) := by decide +kernel
theorem dX2_advance_82 : decode cX2_advance 82 = .ok (.invokevirtual 80, 3) := by decide +kernel
theorem dX2_advance_85 : decode cX2_advance 85 = .ok (.iconst 1, 1) := by decide +kernel
theorem dX2_advance_86 : decode cX2_advance 86 = .ok (.ireturn, 1) := by decide +kernel
theorem dX2_advance_87 : decode cX2_advance 87 = .ok (.iinc 3 1, 3) := by decide +kernel
theorem dX2_advance_90 : decode cX2_advance 90 = .ok (.goto (-40), 3) := by decide +kernel
theorem dX2_advance_93 : decode cX2_advance 93 = .ok (.iinc 1 (-1), 3) := by decide +kernel
theorem dX2_advance_96 : decode cX2_advance 96 = .ok (.goto (-89), 3) := by decide +kernel
theorem dX2_advance_99 : decode cX2_advance 99 = .ok (.iconst 0, 1) := by decide +kernel
theorem dX2_advance_100 : decode cX2_advance 100 = .ok (.ireturn, 1) := by decide +kernel
abbrev cX2_coverSet : ByteArray := prog_3_method_32_code
def yX2_coverSet : MethodName := ⟨RX2, "coverSet", "(I)I"⟩
theorem dX2_coverSet_0 : decode cX2_coverSet 0 = .ok (.aload_n 0, 1) := by decide +kernel
theorem dX2_coverSet_1 : decode cX2_coverSet 1 = .ok (.invokevirtual 92, 3) := by decide +kernel
theorem dX2_coverSet_4 : decode cX2_coverSet 4 = .ok (.iload_n 1, 1) := by decide +kernel
theorem dX2_coverSet_5 : decode cX2_coverSet 5 = .ok (.ifCond .lt 16, 3) := by decide +kernel
theorem dX2_coverSet_8 : decode cX2_coverSet 8 = .ok (.iload_n 1, 1) := by decide +kernel
theorem dX2_coverSet_9 : decode cX2_coverSet 9 = .ok (.aload_n 0, 1) := by decide +kernel
theorem dX2_coverSet_10 : decode cX2_coverSet 10 = .ok (.getfield 71, 3) := by decide +kernel
theorem dX2_coverSet_13 : decode cX2_coverSet 13 = .ok (.if_icmp .ge 8, 3) := by decide +kernel
theorem dX2_coverSet_16 : decode cX2_coverSet 16 = .ok (.iload_n 1, 1) := by decide +kernel
theorem dX2_coverSet_17 : decode cX2_coverSet 17 = .ok (.iconst 5, 1) := by decide +kernel
theorem dX2_coverSet_18 : decode cX2_coverSet 18 = .ok (.if_icmp .lt 5, 3) := by decide +kernel
theorem dX2_coverSet_21 : decode cX2_coverSet 21 = .ok (.iconst (-1), 1) := by decide +kernel
theorem dX2_coverSet_22 : decode cX2_coverSet 22 = .ok (.ireturn, 1) := by decide +kernel
theorem dX2_coverSet_23 : decode cX2_coverSet 23 = .ok (.aload_n 0, 1) := by decide +kernel
theorem dX2_coverSet_24 : decode cX2_coverSet 24 = .ok (.getfield 17, 3) := by decide +kernel
theorem dX2_coverSet_27 : decode cX2_coverSet 27 = .ok (.iload_n 1, 1) := by decide +kernel
theorem dX2_coverSet_28 : decode cX2_coverSet 28 = .ok (.iaload, 1) := by decide +kernel
theorem dX2_coverSet_29 : decode cX2_coverSet 29 = .ok (.ireturn, 1) := by decide +kernel
abbrev cX2_isCover : ByteArray := prog_3_method_34_code
def yX2_isCover : MethodName := ⟨RX2, "isCover", "(III)I"⟩
theorem dX2_isCover_0 : decode cX2_isCover 0 = .ok (.aload_n 0, 1) := by decide +kernel
theorem dX2_isCover_1 : decode cX2_isCover 1 = .ok (.iload_n 1, 1) := by decide +kernel
theorem dX2_isCover_2 : decode cX2_isCover 2 = .ok (.invokevirtual 95, 3) := by decide +kernel
theorem dX2_isCover_5 : decode cX2_isCover 5 = .ok (.ifCond .ne 19, 3) := by decide +kernel
theorem dX2_isCover_8 : decode cX2_isCover 8 = .ok (.aload_n 0, 1) := by decide +kernel
theorem dX2_isCover_9 : decode cX2_isCover 9 = .ok (.iload_n 2, 1) := by decide +kernel
theorem dX2_isCover_10 : decode cX2_isCover 10 = .ok (.invokevirtual 95, 3) := by decide +kernel
theorem dX2_isCover_13 : decode cX2_isCover 13 = .ok (.ifCond .ne 11, 3) := by decide +kernel
theorem dX2_isCover_16 : decode cX2_isCover 16 = .ok (.aload_n 0, 1) := by decide +kernel
theorem dX2_isCover_17 : decode cX2_isCover 17 = .ok (.iload_n 3, 1) := by decide +kernel
theorem dX2_isCover_18 : decode cX2_isCover 18 = .ok (.invokevirtual 95, 3) := by decide +kernel
theorem dX2_isCover_21 : decode cX2_isCover 21 = .ok (.ifCond .eq 5, 3) := by decide +kernel
theorem dX2_isCover_24 : decode cX2_isCover 24 = .ok (.iconst (-1), 1) := by decide +kernel
theorem dX2_isCover_25 : decode cX2_isCover 25 = .ok (.ireturn, 1) := by decide +kernel
theorem dX2_isCover_26 : decode cX2_isCover 26 = .ok (.iload_n 1, 1) := by decide +kernel
theorem dX2_isCover_27 : decode cX2_isCover 27 = .ok (.ifCond .ne 13, 3) := by decide +kernel
theorem dX2_isCover_30 : decode cX2_isCover 30 = .ok (.iload_n 2, 1) := by decide +kernel
theorem dX2_isCover_31 : decode cX2_isCover 31 = .ok (.ifCond .ne 9, 3) := by decide +kernel
theorem dX2_isCover_34 : decode cX2_isCover 34 = .ok (.iload_n 3, 1) := by decide +kernel
theorem dX2_isCover_35 : decode cX2_isCover 35 = .ok (.ifCond .ne 5, 3) := by decide +kernel
theorem dX2_isCover_38 : decode cX2_isCover 38 = .ok (.iconst (-1), 1) := by decide +kernel
theorem dX2_isCover_39 : decode cX2_isCover 39 = .ok (.ireturn, 1) := by decide +kernel
theorem dX2_isCover_40 : decode cX2_isCover 40 = .ok (.aload_n 0, 1) := by decide +kernel
theorem dX2_isCover_41 : decode cX2_isCover 41 = .ok (.invokevirtual 59, 3) := by decide +kernel
theorem dX2_isCover_44 : decode cX2_isCover 44 = .ok (.aload_n 0, 1) := by decide +kernel
theorem dX2_isCover_45 : decode cX2_isCover 45 = .ok (.iconst 0, 1) := by decide +kernel
theorem dX2_isCover_46 : decode cX2_isCover 46 = .ok (.putfield 71, 3) := by decide +kernel
theorem dX2_isCover_49 : decode cX2_isCover 49 = .ok (.iconst 1, 1) := by decide +kernel
theorem dX2_isCover_50 : decode cX2_isCover 50 = .ok (.istore 4, 2) := by decide +kernel
theorem dX2_isCover_52 : decode cX2_isCover 52 = .ok (.iload 4, 2) := by decide +kernel
theorem dX2_isCover_54 : decode cX2_isCover 54 = .ok (.iconst 1, 1) := by decide +kernel
theorem dX2_isCover_55 : decode cX2_isCover 55 = .ok (.aload_n 0, 1) := by decide +kernel
theorem dX2_isCover_56 : decode cX2_isCover 56 = .ok (.getfield 20, 3) := by decide +kernel
theorem dX2_isCover_59 : decode cX2_isCover 59 = .ok (.ishl, 1) := by decide +kernel
theorem dX2_isCover_60 : decode cX2_isCover 60 = .ok (.if_icmp .ge 56, 3) := by decide +kernel
theorem dX2_isCover_63 : decode cX2_isCover 63 = .ok (.iload 4, 2) := by decide +kernel
theorem dX2_isCover_65 : decode cX2_isCover 65 = .ok (.iload_n 1, 1) := by decide +kernel
theorem dX2_isCover_66 : decode cX2_isCover 66 = .ok (.if_icmp .eq 15, 3) := by decide +kernel
theorem dX2_isCover_69 : decode cX2_isCover 69 = .ok (.iload 4, 2) := by decide +kernel
theorem dX2_isCover_71 : decode cX2_isCover 71 = .ok (.iload_n 2, 1) := by decide +kernel
theorem dX2_isCover_72 : decode cX2_isCover 72 = .ok (.if_icmp .eq 9, 3) := by decide +kernel
theorem dX2_isCover_75 : decode cX2_isCover 75 = .ok (.iload 4, 2) := by decide +kernel
theorem dX2_isCover_77 : decode cX2_isCover 77 = .ok (.iload_n 3, 1) := by decide +kernel
theorem dX2_isCover_78 : decode cX2_isCover 78 = .ok (.if_icmp .ne 32, 3) := by decide +kernel
theorem dX2_isCover_81 : decode cX2_isCover 81 = .ok (.aload_n 0, 1) := by decide +kernel
theorem dX2_isCover_82 : decode cX2_isCover 82 = .ok (.getfield 71, 3) := by decide +kernel
theorem dX2_isCover_85 : decode cX2_isCover 85 = .ok (.iconst 5, 1) := by decide +kernel
theorem dX2_isCover_86 : decode cX2_isCover 86 = .ok (.if_icmp .ge 24, 3) := by decide +kernel
theorem dX2_isCover_89 : decode cX2_isCover 89 = .ok (.aload_n 0, 1) := by decide +kernel
theorem dX2_isCover_90 : decode cX2_isCover 90 = .ok (.getfield 17, 3) := by decide +kernel
theorem dX2_isCover_93 : decode cX2_isCover 93 = .ok (.aload_n 0, 1) := by decide +kernel
theorem dX2_isCover_94 : decode cX2_isCover 94 = .ok (.getfield 71, 3) := by decide +kernel
theorem dX2_isCover_97 : decode cX2_isCover 97 = .ok (.iload 4, 2) := by decide +kernel
theorem dX2_isCover_99 : decode cX2_isCover 99 = .ok (.iastore, 1) := by decide +kernel
theorem dX2_isCover_100 : decode cX2_isCover 100 = .ok (.aload_n 0, 1) := by decide +kernel
theorem dX2_isCover_101 : decode cX2_isCover 101 = .ok (.dup, 1) := by decide +kernel
theorem dX2_isCover_102 : decode cX2_isCover 102 = .ok (.getfield 71, 3) := by decide +kernel
theorem dX2_isCover_105 : decode cX2_isCover 105 = .ok (.iconst 1, 1) := by decide +kernel
theorem dX2_isCover_106 : decode cX2_isCover 106 = .ok (.iadd, 1) := by decide +kernel
theorem dX2_isCover_107 : decode cX2_isCover 107 = .ok (.putfield 71, 3) := by decide +kernel
theorem dX2_isCover_110 : decode cX2_isCover 110 = .ok (.iinc 4 1, 3) := by decide +kernel
theorem dX2_isCover_113 : decode cX2_isCover 113 = .ok (.goto (-61), 3) := by decide +kernel
theorem dX2_isCover_116 : decode cX2_isCover 116 = .ok (.aload_n 0, 1) := by decide +kernel
theorem dX2_isCover_117 : decode cX2_isCover 117 = .ok (.invokevirtual 85, 3) := by decide +kernel
theorem dX2_isCover_120 : decode cX2_isCover 120 = .ok (.ifCond .eq 7, 3) := by decide +kernel
theorem dX2_isCover_123 : decode cX2_isCover 123 = .ok (.iconst 1, 1) := by decide +kernel
theorem dX2_isCover_124 : decode cX2_isCover 124 = .ok (.goto 4, 3) := by decide +kernel
theorem dX2_isCover_127 : decode cX2_isCover 127 = .ok (.iconst 0, 1) := by decide +kernel
theorem dX2_isCover_128 : decode cX2_isCover 128 = .ok (.ireturn, 1) := by decide +kernel
end
section
set_option maxRecDepth 100000
abbrev cX2_outside : ByteArray := prog_3_method_33_code
def yX2_outside : MethodName := ⟨RX2, "outside", "(I)Z"⟩
theorem dX2_outside_0 : decode cX2_outside 0 = .ok (.iload_n 1, 1) := by decide +kernel
theorem dX2_outside_1 : decode cX2_outside 1 = .ok (.ifCond .lt 15, 3) := by decide +kernel
theorem dX2_outside_4 : decode cX2_outside 4 = .ok (.iload_n 1, 1) := by decide +kernel
theorem dX2_outside_5 : decode cX2_outside 5 = .ok (.iconst 1, 1) := by decide +kernel
theorem dX2_outside_6 : decode cX2_outside 6 = .ok (.aload_n 0, 1) := by decide +kernel
theorem dX2_outside_7 : decode cX2_outside 7 = .ok (.getfield 20, 3) := by decide +kernel
theorem dX2_outside_10 : decode cX2_outside 10 = .ok (.ishl, 1) := by decide +kernel
theorem dX2_outside_11 : decode cX2_outside 11 = .ok (.iconst 1, 1) := by decide +kernel
theorem dX2_outside_12 : decode cX2_outside 12 = .ok (.isub, 1) := by decide +kernel
theorem dX2_outside_13 : decode cX2_outside 13 = .ok (.if_icmp .le 7, 3) := by decide +kernel
theorem dX2_outside_16 : decode cX2_outside 16 = .ok (.iconst 1, 1) := by decide +kernel
theorem dX2_outside_17 : decode cX2_outside 17 = .ok (.goto 4, 3) := by decide +kernel
theorem dX2_outside_20 : decode cX2_outside 20 = .ok (.iconst 0, 1) := by decide +kernel
theorem dX2_outside_21 : decode cX2_outside 21 = .ok (.ireturn, 1) := by decide +kernel
abbrev cX2_restart : ByteArray := prog_3_method_35_code
def yX2_restart : MethodName := ⟨RX2, "restart", "()V"⟩
theorem dX2_restart_0 : decode cX2_restart 0 = .ok (.aload_n 0, 1) := by decide +kernel
theorem dX2_restart_1 : decode cX2_restart 1 = .ok (.iconst 0, 1) := by decide +kernel
theorem dX2_restart_2 : decode cX2_restart 2 = .ok (.putfield 31, 3) := by decide +kernel
theorem dX2_restart_5 : decode cX2_restart 5 = .ok (.return_, 1) := by decide +kernel
abbrev cX2_read : ByteArray := prog_3_method_36_code
def yX2_read : MethodName := ⟨RX2, "read", "(I)I"⟩
theorem dX2_read_0 : decode cX2_read 0 = .ok (.aload_n 0, 1) := by decide +kernel
theorem dX2_read_1 : decode cX2_read 1 = .ok (.iload_n 1, 1) := by decide +kernel
theorem dX2_read_2 : decode cX2_read 2 = .ok (.invokevirtual 28, 3) := by decide +kernel
theorem dX2_read_5 : decode cX2_read 5 = .ok (.ifCond .eq 5, 3) := by decide +kernel
theorem dX2_read_8 : decode cX2_read 8 = .ok (.iconst (-1), 1) := by decide +kernel
theorem dX2_read_9 : decode cX2_read 9 = .ok (.ireturn, 1) := by decide +kernel
theorem dX2_read_10 : decode cX2_read 10 = .ok (.aload_n 0, 1) := by decide +kernel
theorem dX2_read_11 : decode cX2_read 11 = .ok (.getfield 31, 3) := by decide +kernel
theorem dX2_read_14 : decode cX2_read 14 = .ok (.iconst (-1), 1) := by decide +kernel
theorem dX2_read_15 : decode cX2_read 15 = .ok (.if_icmp .ne 6, 3) := by decide +kernel
theorem dX2_read_18 : decode cX2_read 18 = .ok (.bipush (-3), 2) := by decide +kernel
theorem dX2_read_20 : decode cX2_read 20 = .ok (.ireturn, 1) := by decide +kernel
theorem dX2_read_21 : decode cX2_read 21 = .ok (.aload_n 0, 1) := by decide +kernel
theorem dX2_read_22 : decode cX2_read 22 = .ok (.aload_n 0, 1) := by decide +kernel
theorem dX2_read_23 : decode cX2_read 23 = .ok (.getfield 31, 3) := by decide +kernel
theorem dX2_read_26 : decode cX2_read 26 = .ok (.iload_n 1, 1) := by decide +kernel
theorem dX2_read_27 : decode cX2_read 27 = .ok (.invokevirtual 38, 3) := by decide +kernel
theorem dX2_read_30 : decode cX2_read 30 = .ok (.istore_n 2, 1) := by decide +kernel
theorem dX2_read_31 : decode cX2_read 31 = .ok (.aload_n 0, 1) := by decide +kernel
theorem dX2_read_32 : decode cX2_read 32 = .ok (.aload_n 0, 1) := by decide +kernel
theorem dX2_read_33 : decode cX2_read 33 = .ok (.aload_n 0, 1) := by decide +kernel
theorem dX2_read_34 : decode cX2_read 34 = .ok (.getfield 31, 3) := by decide +kernel
theorem dX2_read_37 : decode cX2_read 37 = .ok (.iload_n 1, 1) := by decide +kernel
theorem dX2_read_38 : decode cX2_read 38 = .ok (.invokevirtual 34, 3) := by decide +kernel
theorem dX2_read_41 : decode cX2_read 41 = .ok (.putfield 31, 3) := by decide +kernel
theorem dX2_read_44 : decode cX2_read 44 = .ok (.iload_n 2, 1) := by decide +kernel
theorem dX2_read_45 : decode cX2_read 45 = .ok (.iconst (-1), 1) := by decide +kernel
theorem dX2_read_46 : decode cX2_read 46 = .ok (.if_icmp .ne 8, 3) := by decide +kernel
theorem dX2_read_49 : decode cX2_read 49 = .ok (.bipush (-2), 2) := by decide +kernel
theorem dX2_read_51 : decode cX2_read 51 = .ok (.goto 4, 3) := by decide +kernel
theorem dX2_read_54 : decode cX2_read 54 = .ok (.iload_n 2, 1) := by decide +kernel
theorem dX2_read_55 : decode cX2_read 55 = .ok (.ireturn, 1) := by decide +kernel
abbrev cX2_lost : ByteArray := prog_3_method_37_code
def yX2_lost : MethodName := ⟨RX2, "lost", "()I"⟩
theorem dX2_lost_0 : decode cX2_lost 0 = .ok (.aload_n 0, 1) := by decide +kernel
theorem dX2_lost_1 : decode cX2_lost 1 = .ok (.getfield 31, 3) := by decide +kernel
theorem dX2_lost_4 : decode cX2_lost 4 = .ok (.iconst (-1), 1) := by decide +kernel
theorem dX2_lost_5 : decode cX2_lost 5 = .ok (.if_icmp .ne 7, 3) := by decide +kernel
theorem dX2_lost_8 : decode cX2_lost 8 = .ok (.iconst 1, 1) := by decide +kernel
theorem dX2_lost_9 : decode cX2_lost 9 = .ok (.goto 4, 3) := by decide +kernel
theorem dX2_lost_12 : decode cX2_lost 12 = .ok (.iconst 0, 1) := by decide +kernel
theorem dX2_lost_13 : decode cX2_lost 13 = .ok (.ireturn, 1) := by decide +kernel
theorem q38 : (Jvm.Cond.initialized "FsmReducerModel") ∈ lw_all := lw_g (lw_at lw_m1 2 rfl) rfl
theorem q239 : (Jvm.Cond.instantiable "FsmReducerModel" (6 : Nat)) ∈ lw_all := lw_g (lw_at lw_m1 203 rfl) rfl
theorem q241 : (Jvm.Cond.instanceMethod ({ cls := "FsmReducerModel", name := "<init>", desc := "(I)V" } : Jvm.MethodName)) ∈ lw_all := lw_g (lw_at lw_m1 205 rfl) rfl
theorem q242 : (Jvm.Cond.code ({ cls := "FsmReducerModel", name := "<init>", desc := "(I)V" } : Jvm.MethodName) prog_3_method_1_code (2 : Nat) (Option.none : Option Jvm.ClassFile.FieldType)) ∈ lw_all := lw_g (lw_at lw_m1 206 rfl) rfl
theorem q243 : (Jvm.Cond.methodLink "FsmReducerModel" (1 : Nat) ({ cls := "java/lang/Object", name := "<init>", desc := "()V" } : Jvm.MethodName)) ∈ lw_all := lw_g (lw_at lw_m1 207 rfl) rfl
theorem q244 : (Jvm.Cond.fieldLink "FsmReducerModel" (20 : Nat) "FsmReducerModel" "n" "I") ∈ lw_all := lw_g (lw_at lw_m1 208 rfl) rfl
theorem q245 : (Jvm.Cond.fieldLink "FsmReducerModel" (7 : Nat) "FsmReducerModel" "entry" "[I") ∈ lw_all := lw_g (lw_at lw_m1 209 rfl) rfl
theorem q246 : (Jvm.Cond.fieldLink "FsmReducerModel" (31 : Nat) "FsmReducerModel" "at" "I") ∈ lw_all := lw_g (lw_at lw_m1 210 rfl) rfl
theorem q247 : (Jvm.Cond.fieldLink "FsmReducerModel" (13 : Nat) "FsmReducerModel" "fits" "[Z") ∈ lw_all := lw_g (lw_at lw_m1 211 rfl) rfl
theorem q248 : (Jvm.Cond.fieldLink "FsmReducerModel" (17 : Nat) "FsmReducerModel" "chosen" "[I") ∈ lw_all := lw_g (lw_at lw_m1 212 rfl) rfl
theorem q249 : (Jvm.Cond.fieldLink "FsmReducerModel" (71 : Nat) "FsmReducerModel" "size" "I") ∈ lw_all := lw_g (lw_at lw_m1 213 rfl) rfl
theorem q250 : (Jvm.Cond.lays "FsmReducerModel" "FsmReducerModel" "n" "I") ∈ lw_all := lw_g (lw_at lw_m1 214 rfl) rfl
theorem q251 : (Jvm.Cond.soleField "FsmReducerModel" "n") ∈ lw_all := lw_g (lw_at lw_m1 215 rfl) rfl
theorem q252 : (Jvm.Cond.lays "FsmReducerModel" "FsmReducerModel" "entry" "[I") ∈ lw_all := lw_g (lw_at lw_m1 216 rfl) rfl
theorem q253 : (Jvm.Cond.soleField "FsmReducerModel" "entry") ∈ lw_all := lw_g (lw_at lw_m1 217 rfl) rfl
theorem q254 : (Jvm.Cond.lays "FsmReducerModel" "FsmReducerModel" "at" "I") ∈ lw_all := lw_g (lw_at lw_m1 218 rfl) rfl
theorem q255 : (Jvm.Cond.soleField "FsmReducerModel" "at") ∈ lw_all := lw_g (lw_at lw_m1 219 rfl) rfl
theorem q256 : (Jvm.Cond.lays "FsmReducerModel" "FsmReducerModel" "fits" "[Z") ∈ lw_all := lw_g (lw_at lw_m1 220 rfl) rfl
theorem q257 : (Jvm.Cond.soleField "FsmReducerModel" "fits") ∈ lw_all := lw_g (lw_at lw_m1 221 rfl) rfl
theorem q258 : (Jvm.Cond.lays "FsmReducerModel" "FsmReducerModel" "chosen" "[I") ∈ lw_all := lw_g (lw_at lw_m1 222 rfl) rfl
theorem q259 : (Jvm.Cond.soleField "FsmReducerModel" "chosen") ∈ lw_all := lw_g (lw_at lw_m1 223 rfl) rfl
theorem q260 : (Jvm.Cond.lays "FsmReducerModel" "FsmReducerModel" "size" "I") ∈ lw_all := lw_g (lw_at lw_m1 224 rfl) rfl
theorem q261 : (Jvm.Cond.soleField "FsmReducerModel" "size") ∈ lw_all := lw_g (lw_at lw_m1 225 rfl) rfl
theorem q262 : (Jvm.Cond.superclass "FsmReducerModel" "java/lang/Object") ∈ lw_all := lw_g (lw_at lw_m1 226 rfl) rfl
theorem q265 : (Jvm.Cond.instanceMethod ({ cls := "FsmReducerModel", name := "states", desc := "()I" } : Jvm.MethodName)) ∈ lw_all := lw_g (lw_at lw_m1 229 rfl) rfl
theorem q266 : (Jvm.Cond.selects "FsmReducerModel" ({ cls := "FsmReducerModel", name := "states", desc := "()I" } : Jvm.MethodName) ({ cls := "FsmReducerModel", name := "states", desc := "()I" } : Jvm.MethodName)) ∈ lw_all := lw_g (lw_at lw_m1 230 rfl) rfl
theorem q267 : (Jvm.Cond.code ({ cls := "FsmReducerModel", name := "states", desc := "()I" } : Jvm.MethodName) prog_3_method_2_code (1 : Nat) (Option.some Jvm.ClassFile.FieldType.int)) ∈ lw_all := lw_g (lw_at lw_m1 231 rfl) rfl
theorem q269 : (Jvm.Cond.instanceMethod ({ cls := "FsmReducerModel", name := "set", desc := "(III)I" } : Jvm.MethodName)) ∈ lw_all := lw_g (lw_at lw_m1 233 rfl) rfl
theorem q270 : (Jvm.Cond.selects "FsmReducerModel" ({ cls := "FsmReducerModel", name := "set", desc := "(III)I" } : Jvm.MethodName) ({ cls := "FsmReducerModel", name := "set", desc := "(III)I" } : Jvm.MethodName)) ∈ lw_all := lw_g (lw_at lw_m1 234 rfl) rfl
theorem q271 : (Jvm.Cond.code ({ cls := "FsmReducerModel", name := "set", desc := "(III)I" } : Jvm.MethodName) prog_3_method_8_code (5 : Nat) (Option.some Jvm.ClassFile.FieldType.int)) ∈ lw_all := lw_g (lw_at lw_m1 235 rfl) rfl
theorem q272 : (Jvm.Cond.methodLink "FsmReducerModel" (24 : Nat) ({ cls := "FsmReducerModel", name := "badState", desc := "(I)Z" } : Jvm.MethodName)) ∈ lw_all := lw_g (lw_at lw_m1 236 rfl) rfl
theorem q273 : (Jvm.Cond.privateMethod ({ cls := "FsmReducerModel", name := "badState", desc := "(I)Z" } : Jvm.MethodName)) ∈ lw_tbl := lw_at lw_m1 237 rfl
theorem q274 : (Jvm.Cond.instanceMethod ({ cls := "FsmReducerModel", name := "badState", desc := "(I)Z" } : Jvm.MethodName)) ∈ lw_all := lw_g (lw_at lw_m1 238 rfl) rfl
theorem q275 : (Jvm.Cond.code ({ cls := "FsmReducerModel", name := "badState", desc := "(I)Z" } : Jvm.MethodName) prog_3_method_3_code (2 : Nat) (Option.some Jvm.ClassFile.FieldType.boolean)) ∈ lw_all := lw_g (lw_at lw_m1 239 rfl) rfl
theorem q276 : (Jvm.Cond.methodLink "FsmReducerModel" (28 : Nat) ({ cls := "FsmReducerModel", name := "badInput", desc := "(I)Z" } : Jvm.MethodName)) ∈ lw_all := lw_g (lw_at lw_m2 0 rfl) rfl
theorem q277 : (Jvm.Cond.privateMethod ({ cls := "FsmReducerModel", name := "badInput", desc := "(I)Z" } : Jvm.MethodName)) ∈ lw_tbl := lw_at lw_m2 1 rfl
theorem q278 : (Jvm.Cond.instanceMethod ({ cls := "FsmReducerModel", name := "badInput", desc := "(I)Z" } : Jvm.MethodName)) ∈ lw_all := lw_g (lw_at lw_m2 2 rfl) rfl
theorem q279 : (Jvm.Cond.code ({ cls := "FsmReducerModel", name := "badInput", desc := "(I)Z" } : Jvm.MethodName) prog_3_method_4_code (2 : Nat) (Option.some Jvm.ClassFile.FieldType.boolean)) ∈ lw_all := lw_g (lw_at lw_m2 3 rfl) rfl
theorem q281 : (Jvm.Cond.instanceMethod ({ cls := "FsmReducerModel", name := "entry", desc := "(II)I" } : Jvm.MethodName)) ∈ lw_all := lw_g (lw_at lw_m2 5 rfl) rfl
theorem q282 : (Jvm.Cond.selects "FsmReducerModel" ({ cls := "FsmReducerModel", name := "entry", desc := "(II)I" } : Jvm.MethodName) ({ cls := "FsmReducerModel", name := "entry", desc := "(II)I" } : Jvm.MethodName)) ∈ lw_all := lw_g (lw_at lw_m2 6 rfl) rfl
theorem q283 : (Jvm.Cond.code ({ cls := "FsmReducerModel", name := "entry", desc := "(II)I" } : Jvm.MethodName) prog_3_method_9_code (3 : Nat) (Option.some Jvm.ClassFile.FieldType.int)) ∈ lw_all := lw_g (lw_at lw_m2 7 rfl) rfl
theorem q285 : (Jvm.Cond.instanceMethod ({ cls := "FsmReducerModel", name := "compatible", desc := "(II)I" } : Jvm.MethodName)) ∈ lw_all := lw_g (lw_at lw_m2 9 rfl) rfl
theorem q286 : (Jvm.Cond.selects "FsmReducerModel" ({ cls := "FsmReducerModel", name := "compatible", desc := "(II)I" } : Jvm.MethodName) ({ cls := "FsmReducerModel", name := "compatible", desc := "(II)I" } : Jvm.MethodName)) ∈ lw_all := lw_g (lw_at lw_m2 10 rfl) rfl
theorem q287 : (Jvm.Cond.code ({ cls := "FsmReducerModel", name := "compatible", desc := "(II)I" } : Jvm.MethodName) prog_3_method_13_code (3 : Nat) (Option.some Jvm.ClassFile.FieldType.int)) ∈ lw_all := lw_g (lw_at lw_m2 11 rfl) rfl
theorem q288 : (Jvm.Cond.methodLink "FsmReducerModel" (49 : Nat) ({ cls := "FsmReducerModel", name := "shortest", desc := "(II)I" } : Jvm.MethodName)) ∈ lw_all := lw_g (lw_at lw_m2 12 rfl) rfl
theorem q289 : (Jvm.Cond.privateMethod ({ cls := "FsmReducerModel", name := "shortest", desc := "(II)I" } : Jvm.MethodName)) ∈ lw_tbl := lw_at lw_m2 13 rfl
theorem q290 : (Jvm.Cond.instanceMethod ({ cls := "FsmReducerModel", name := "shortest", desc := "(II)I" } : Jvm.MethodName)) ∈ lw_all := lw_g (lw_at lw_m2 14 rfl) rfl
theorem q291 : (Jvm.Cond.code ({ cls := "FsmReducerModel", name := "shortest", desc := "(II)I" } : Jvm.MethodName) prog_3_method_12_code (6 : Nat) (Option.some Jvm.ClassFile.FieldType.int)) ∈ lw_all := lw_g (lw_at lw_m2 15 rfl) rfl
theorem q292 : (Jvm.Cond.methodLink "FsmReducerModel" (45 : Nat) ({ cls := "FsmReducerModel", name := "splitter", desc := "(III)I" } : Jvm.MethodName)) ∈ lw_all := lw_g (lw_at lw_m2 16 rfl) rfl
theorem q293 : (Jvm.Cond.privateMethod ({ cls := "FsmReducerModel", name := "splitter", desc := "(III)I" } : Jvm.MethodName)) ∈ lw_tbl := lw_at lw_m2 17 rfl
theorem q294 : (Jvm.Cond.instanceMethod ({ cls := "FsmReducerModel", name := "splitter", desc := "(III)I" } : Jvm.MethodName)) ∈ lw_all := lw_g (lw_at lw_m2 18 rfl) rfl
theorem q295 : (Jvm.Cond.code ({ cls := "FsmReducerModel", name := "splitter", desc := "(III)I" } : Jvm.MethodName) prog_3_method_11_code (5 : Nat) (Option.some Jvm.ClassFile.FieldType.int)) ∈ lw_all := lw_g (lw_at lw_m2 19 rfl) rfl
theorem q296 : (Jvm.Cond.methodLink "FsmReducerModel" (41 : Nat) ({ cls := "FsmReducerModel", name := "splits", desc := "(IIII)Z" } : Jvm.MethodName)) ∈ lw_all := lw_g (lw_at lw_m2 20 rfl) rfl
theorem q297 : (Jvm.Cond.privateMethod ({ cls := "FsmReducerModel", name := "splits", desc := "(IIII)Z" } : Jvm.MethodName)) ∈ lw_tbl := lw_at lw_m2 21 rfl
theorem q298 : (Jvm.Cond.instanceMethod ({ cls := "FsmReducerModel", name := "splits", desc := "(IIII)Z" } : Jvm.MethodName)) ∈ lw_all := lw_g (lw_at lw_m2 22 rfl) rfl
theorem q299 : (Jvm.Cond.code ({ cls := "FsmReducerModel", name := "splits", desc := "(IIII)Z" } : Jvm.MethodName) prog_3_method_10_code (9 : Nat) (Option.some Jvm.ClassFile.FieldType.boolean)) ∈ lw_all := lw_g (lw_at lw_m2 23 rfl) rfl
theorem q300 : (Jvm.Cond.methodLink "FsmReducerModel" (34 : Nat) ({ cls := "FsmReducerModel", name := "next", desc := "(II)I" } : Jvm.MethodName)) ∈ lw_all := lw_g (lw_at lw_m2 24 rfl) rfl
theorem q301 : (Jvm.Cond.privateMethod ({ cls := "FsmReducerModel", name := "next", desc := "(II)I" } : Jvm.MethodName)) ∈ lw_tbl := lw_at lw_m2 25 rfl
theorem q302 : (Jvm.Cond.instanceMethod ({ cls := "FsmReducerModel", name := "next", desc := "(II)I" } : Jvm.MethodName)) ∈ lw_all := lw_g (lw_at lw_m2 26 rfl) rfl
theorem q303 : (Jvm.Cond.code ({ cls := "FsmReducerModel", name := "next", desc := "(II)I" } : Jvm.MethodName) prog_3_method_6_code (3 : Nat) (Option.some Jvm.ClassFile.FieldType.int)) ∈ lw_all := lw_g (lw_at lw_m2 27 rfl) rfl
theorem q304 : (Jvm.Cond.methodLink "FsmReducerModel" (38 : Nat) ({ cls := "FsmReducerModel", name := "output", desc := "(II)I" } : Jvm.MethodName)) ∈ lw_all := lw_g (lw_at lw_m2 28 rfl) rfl
theorem q305 : (Jvm.Cond.privateMethod ({ cls := "FsmReducerModel", name := "output", desc := "(II)I" } : Jvm.MethodName)) ∈ lw_tbl := lw_at lw_m2 29 rfl
theorem q306 : (Jvm.Cond.instanceMethod ({ cls := "FsmReducerModel", name := "output", desc := "(II)I" } : Jvm.MethodName)) ∈ lw_all := lw_g (lw_at lw_m2 30 rfl) rfl
theorem q307 : (Jvm.Cond.code ({ cls := "FsmReducerModel", name := "output", desc := "(II)I" } : Jvm.MethodName) prog_3_method_7_code (3 : Nat) (Option.some Jvm.ClassFile.FieldType.int)) ∈ lw_all := lw_g (lw_at lw_m2 31 rfl) rfl
theorem q309 : (Jvm.Cond.instanceMethod ({ cls := "FsmReducerModel", name := "splitLength", desc := "(II)I" } : Jvm.MethodName)) ∈ lw_all := lw_g (lw_at lw_m2 33 rfl) rfl
theorem q310 : (Jvm.Cond.selects "FsmReducerModel" ({ cls := "FsmReducerModel", name := "splitLength", desc := "(II)I" } : Jvm.MethodName) ({ cls := "FsmReducerModel", name := "splitLength", desc := "(II)I" } : Jvm.MethodName)) ∈ lw_all := lw_g (lw_at lw_m2 34 rfl) rfl
theorem q311 : (Jvm.Cond.code ({ cls := "FsmReducerModel", name := "splitLength", desc := "(II)I" } : Jvm.MethodName) prog_3_method_14_code (4 : Nat) (Option.some Jvm.ClassFile.FieldType.int)) ∈ lw_all := lw_g (lw_at lw_m2 35 rfl) rfl
theorem q313 : (Jvm.Cond.instanceMethod ({ cls := "FsmReducerModel", name := "splitWord", desc := "(II)I" } : Jvm.MethodName)) ∈ lw_all := lw_g (lw_at lw_m2 37 rfl) rfl
theorem q314 : (Jvm.Cond.selects "FsmReducerModel" ({ cls := "FsmReducerModel", name := "splitWord", desc := "(II)I" } : Jvm.MethodName) ({ cls := "FsmReducerModel", name := "splitWord", desc := "(II)I" } : Jvm.MethodName)) ∈ lw_all := lw_g (lw_at lw_m2 38 rfl) rfl
theorem q315 : (Jvm.Cond.code ({ cls := "FsmReducerModel", name := "splitWord", desc := "(II)I" } : Jvm.MethodName) prog_3_method_15_code (4 : Nat) (Option.some Jvm.ClassFile.FieldType.int)) ∈ lw_all := lw_g (lw_at lw_m2 39 rfl) rfl
theorem q317 : (Jvm.Cond.instanceMethod ({ cls := "FsmReducerModel", name := "compatibleSet", desc := "(I)I" } : Jvm.MethodName)) ∈ lw_all := lw_g (lw_at lw_m2 41 rfl) rfl
theorem q318 : (Jvm.Cond.selects "FsmReducerModel" ({ cls := "FsmReducerModel", name := "compatibleSet", desc := "(I)I" } : Jvm.MethodName) ({ cls := "FsmReducerModel", name := "compatibleSet", desc := "(I)I" } : Jvm.MethodName)) ∈ lw_all := lw_g (lw_at lw_m2 42 rfl) rfl
theorem q319 : (Jvm.Cond.code ({ cls := "FsmReducerModel", name := "compatibleSet", desc := "(I)I" } : Jvm.MethodName) prog_3_method_19_code (2 : Nat) (Option.some Jvm.ClassFile.FieldType.int)) ∈ lw_all := lw_g (lw_at lw_m2 43 rfl) rfl
theorem q320 : (Jvm.Cond.methodLink "FsmReducerModel" (56 : Nat) ({ cls := "FsmReducerModel", name := "badSet", desc := "(I)Z" } : Jvm.MethodName)) ∈ lw_all := lw_g (lw_at lw_m2 44 rfl) rfl
theorem q321 : (Jvm.Cond.privateMethod ({ cls := "FsmReducerModel", name := "badSet", desc := "(I)Z" } : Jvm.MethodName)) ∈ lw_tbl := lw_at lw_m2 45 rfl
theorem q322 : (Jvm.Cond.instanceMethod ({ cls := "FsmReducerModel", name := "badSet", desc := "(I)Z" } : Jvm.MethodName)) ∈ lw_all := lw_g (lw_at lw_m2 46 rfl) rfl
theorem q323 : (Jvm.Cond.code ({ cls := "FsmReducerModel", name := "badSet", desc := "(I)Z" } : Jvm.MethodName) prog_3_method_5_code (2 : Nat) (Option.some Jvm.ClassFile.FieldType.boolean)) ∈ lw_all := lw_g (lw_at lw_m2 47 rfl) rfl
theorem q324 : (Jvm.Cond.methodLink "FsmReducerModel" (59 : Nat) ({ cls := "FsmReducerModel", name := "tabulate", desc := "()V" } : Jvm.MethodName)) ∈ lw_all := lw_g (lw_at lw_m2 48 rfl) rfl
theorem q325 : (Jvm.Cond.privateMethod ({ cls := "FsmReducerModel", name := "tabulate", desc := "()V" } : Jvm.MethodName)) ∈ lw_tbl := lw_at lw_m2 49 rfl
theorem q326 : (Jvm.Cond.instanceMethod ({ cls := "FsmReducerModel", name := "tabulate", desc := "()V" } : Jvm.MethodName)) ∈ lw_all := lw_g (lw_at lw_m2 50 rfl) rfl
theorem q327 : (Jvm.Cond.code ({ cls := "FsmReducerModel", name := "tabulate", desc := "()V" } : Jvm.MethodName) prog_3_method_16_code (3 : Nat) (Option.none : Option Jvm.ClassFile.FieldType)) ∈ lw_all := lw_g (lw_at lw_m2 51 rfl) rfl
theorem q328 : (Jvm.Cond.methodLink "FsmReducerModel" (62 : Nat) ({ cls := "FsmReducerModel", name := "agreeing", desc := "(I)Z" } : Jvm.MethodName)) ∈ lw_all := lw_g (lw_at lw_m2 52 rfl) rfl
theorem q329 : (Jvm.Cond.privateMethod ({ cls := "FsmReducerModel", name := "agreeing", desc := "(I)Z" } : Jvm.MethodName)) ∈ lw_tbl := lw_at lw_m2 53 rfl
theorem q330 : (Jvm.Cond.instanceMethod ({ cls := "FsmReducerModel", name := "agreeing", desc := "(I)Z" } : Jvm.MethodName)) ∈ lw_all := lw_g (lw_at lw_m2 54 rfl) rfl
theorem q331 : (Jvm.Cond.code ({ cls := "FsmReducerModel", name := "agreeing", desc := "(I)Z" } : Jvm.MethodName) prog_3_method_18_code (4 : Nat) (Option.some Jvm.ClassFile.FieldType.boolean)) ∈ lw_all := lw_g (lw_at lw_m2 55 rfl) rfl
theorem q332 : (Jvm.Cond.methodLink "FsmReducerModel" (52 : Nat) ({ cls := "FsmReducerModel", name := "in", desc := "(II)Z" } : Jvm.MethodName)) ∈ lw_all := lw_g (lw_at lw_m2 56 rfl) rfl
theorem q333 : (Jvm.Cond.privateMethod ({ cls := "FsmReducerModel", name := "in", desc := "(II)Z" } : Jvm.MethodName)) ∈ lw_tbl := lw_at lw_m2 57 rfl
theorem q334 : (Jvm.Cond.instanceMethod ({ cls := "FsmReducerModel", name := "in", desc := "(II)Z" } : Jvm.MethodName)) ∈ lw_all := lw_g (lw_at lw_m2 58 rfl) rfl
theorem q335 : (Jvm.Cond.code ({ cls := "FsmReducerModel", name := "in", desc := "(II)Z" } : Jvm.MethodName) prog_3_method_17_code (3 : Nat) (Option.some Jvm.ClassFile.FieldType.boolean)) ∈ lw_all := lw_g (lw_at lw_m2 59 rfl) rfl
theorem q337 : (Jvm.Cond.instanceMethod ({ cls := "FsmReducerModel", name := "maximals", desc := "()I" } : Jvm.MethodName)) ∈ lw_all := lw_g (lw_at lw_m2 61 rfl) rfl
theorem q338 : (Jvm.Cond.selects "FsmReducerModel" ({ cls := "FsmReducerModel", name := "maximals", desc := "()I" } : Jvm.MethodName) ({ cls := "FsmReducerModel", name := "maximals", desc := "()I" } : Jvm.MethodName)) ∈ lw_all := lw_g (lw_at lw_m2 62 rfl) rfl
theorem q339 : (Jvm.Cond.code ({ cls := "FsmReducerModel", name := "maximals", desc := "()I" } : Jvm.MethodName) prog_3_method_21_code (3 : Nat) (Option.some Jvm.ClassFile.FieldType.int)) ∈ lw_all := lw_g (lw_at lw_m2 63 rfl) rfl
theorem q340 : (Jvm.Cond.methodLink "FsmReducerModel" (65 : Nat) ({ cls := "FsmReducerModel", name := "largest", desc := "(I)Z" } : Jvm.MethodName)) ∈ lw_all := lw_g (lw_at lw_m2 64 rfl) rfl
theorem q341 : (Jvm.Cond.privateMethod ({ cls := "FsmReducerModel", name := "largest", desc := "(I)Z" } : Jvm.MethodName)) ∈ lw_tbl := lw_at lw_m2 65 rfl
theorem q342 : (Jvm.Cond.instanceMethod ({ cls := "FsmReducerModel", name := "largest", desc := "(I)Z" } : Jvm.MethodName)) ∈ lw_all := lw_g (lw_at lw_m2 66 rfl) rfl
theorem q343 : (Jvm.Cond.code ({ cls := "FsmReducerModel", name := "largest", desc := "(I)Z" } : Jvm.MethodName) prog_3_method_20_code (3 : Nat) (Option.some Jvm.ClassFile.FieldType.boolean)) ∈ lw_all := lw_g (lw_at lw_m2 67 rfl) rfl
theorem q345 : (Jvm.Cond.instanceMethod ({ cls := "FsmReducerModel", name := "maximal", desc := "(I)I" } : Jvm.MethodName)) ∈ lw_all := lw_g (lw_at lw_m2 69 rfl) rfl
theorem q346 : (Jvm.Cond.selects "FsmReducerModel" ({ cls := "FsmReducerModel", name := "maximal", desc := "(I)I" } : Jvm.MethodName) ({ cls := "FsmReducerModel", name := "maximal", desc := "(I)I" } : Jvm.MethodName)) ∈ lw_all := lw_g (lw_at lw_m2 70 rfl) rfl
theorem q347 : (Jvm.Cond.code ({ cls := "FsmReducerModel", name := "maximal", desc := "(I)I" } : Jvm.MethodName) prog_3_method_22_code (4 : Nat) (Option.some Jvm.ClassFile.FieldType.int)) ∈ lw_all := lw_g (lw_at lw_m2 71 rfl) rfl
theorem q349 : (Jvm.Cond.instanceMethod ({ cls := "FsmReducerModel", name := "implied", desc := "(II)I" } : Jvm.MethodName)) ∈ lw_all := lw_g (lw_at lw_m2 73 rfl) rfl
theorem q350 : (Jvm.Cond.selects "FsmReducerModel" ({ cls := "FsmReducerModel", name := "implied", desc := "(II)I" } : Jvm.MethodName) ({ cls := "FsmReducerModel", name := "implied", desc := "(II)I" } : Jvm.MethodName)) ∈ lw_all := lw_g (lw_at lw_m2 74 rfl) rfl
theorem q351 : (Jvm.Cond.code ({ cls := "FsmReducerModel", name := "implied", desc := "(II)I" } : Jvm.MethodName) prog_3_method_24_code (3 : Nat) (Option.some Jvm.ClassFile.FieldType.int)) ∈ lw_all := lw_g (lw_at lw_m2 75 rfl) rfl
theorem q352 : (Jvm.Cond.methodLink "FsmReducerModel" (68 : Nat) ({ cls := "FsmReducerModel", name := "image", desc := "(II)I" } : Jvm.MethodName)) ∈ lw_all := lw_g (lw_at lw_m2 76 rfl) rfl
theorem q353 : (Jvm.Cond.privateMethod ({ cls := "FsmReducerModel", name := "image", desc := "(II)I" } : Jvm.MethodName)) ∈ lw_tbl := lw_at lw_m2 77 rfl
theorem q354 : (Jvm.Cond.instanceMethod ({ cls := "FsmReducerModel", name := "image", desc := "(II)I" } : Jvm.MethodName)) ∈ lw_all := lw_g (lw_at lw_m2 78 rfl) rfl
theorem q355 : (Jvm.Cond.code ({ cls := "FsmReducerModel", name := "image", desc := "(II)I" } : Jvm.MethodName) prog_3_method_23_code (6 : Nat) (Option.some Jvm.ClassFile.FieldType.int)) ∈ lw_all := lw_g (lw_at lw_m2 79 rfl) rfl
theorem q357 : (Jvm.Cond.instanceMethod ({ cls := "FsmReducerModel", name := "coverSize", desc := "()I" } : Jvm.MethodName)) ∈ lw_all := lw_g (lw_at lw_m2 81 rfl) rfl
theorem q358 : (Jvm.Cond.selects "FsmReducerModel" ({ cls := "FsmReducerModel", name := "coverSize", desc := "()I" } : Jvm.MethodName) ({ cls := "FsmReducerModel", name := "coverSize", desc := "()I" } : Jvm.MethodName)) ∈ lw_all := lw_g (lw_at lw_m2 82 rfl) rfl
theorem q359 : (Jvm.Cond.code ({ cls := "FsmReducerModel", name := "coverSize", desc := "()I" } : Jvm.MethodName) prog_3_method_31_code (1 : Nat) (Option.some Jvm.ClassFile.FieldType.int)) ∈ lw_all := lw_g (lw_at lw_m2 83 rfl) rfl
theorem q360 : (Jvm.Cond.methodLink "FsmReducerModel" (92 : Nat) ({ cls := "FsmReducerModel", name := "best", desc := "()V" } : Jvm.MethodName)) ∈ lw_all := lw_g (lw_at lw_m2 84 rfl) rfl
theorem q361 : (Jvm.Cond.privateMethod ({ cls := "FsmReducerModel", name := "best", desc := "()V" } : Jvm.MethodName)) ∈ lw_tbl := lw_at lw_m2 85 rfl
theorem q362 : (Jvm.Cond.instanceMethod ({ cls := "FsmReducerModel", name := "best", desc := "()V" } : Jvm.MethodName)) ∈ lw_all := lw_g (lw_at lw_m2 86 rfl) rfl
theorem q363 : (Jvm.Cond.code ({ cls := "FsmReducerModel", name := "best", desc := "()V" } : Jvm.MethodName) prog_3_method_30_code (4 : Nat) (Option.none : Option Jvm.ClassFile.FieldType)) ∈ lw_all := lw_g (lw_at lw_m2 87 rfl) rfl
theorem q364 : (Jvm.Cond.methodLink "FsmReducerModel" (77 : Nat) ({ cls := "FsmReducerModel", name := "room", desc := "(II)Z" } : Jvm.MethodName)) ∈ lw_all := lw_g (lw_at lw_m2 88 rfl) rfl
theorem q365 : (Jvm.Cond.privateMethod ({ cls := "FsmReducerModel", name := "room", desc := "(II)Z" } : Jvm.MethodName)) ∈ lw_tbl := lw_at lw_m2 89 rfl
theorem q366 : (Jvm.Cond.instanceMethod ({ cls := "FsmReducerModel", name := "room", desc := "(II)Z" } : Jvm.MethodName)) ∈ lw_all := lw_g (lw_at lw_m2 90 rfl) rfl
theorem q367 : (Jvm.Cond.code ({ cls := "FsmReducerModel", name := "room", desc := "(II)Z" } : Jvm.MethodName) prog_3_method_28_code (5 : Nat) (Option.some Jvm.ClassFile.FieldType.boolean)) ∈ lw_all := lw_g (lw_at lw_m2 91 rfl) rfl
theorem q368 : (Jvm.Cond.methodLink "FsmReducerModel" (80 : Nat) ({ cls := "FsmReducerModel", name := "place", desc := "(II)V" } : Jvm.MethodName)) ∈ lw_all := lw_g (lw_at lw_m2 92 rfl) rfl
theorem q369 : (Jvm.Cond.privateMethod ({ cls := "FsmReducerModel", name := "place", desc := "(II)V" } : Jvm.MethodName)) ∈ lw_tbl := lw_at lw_m2 93 rfl
theorem q370 : (Jvm.Cond.instanceMethod ({ cls := "FsmReducerModel", name := "place", desc := "(II)V" } : Jvm.MethodName)) ∈ lw_all := lw_g (lw_at lw_m2 94 rfl) rfl
theorem q371 : (Jvm.Cond.code ({ cls := "FsmReducerModel", name := "place", desc := "(II)V" } : Jvm.MethodName) prog_3_method_29_code (5 : Nat) (Option.none : Option Jvm.ClassFile.FieldType)) ∈ lw_all := lw_g (lw_at lw_m2 95 rfl) rfl
theorem q372 : (Jvm.Cond.constant "FsmReducerModel" (84 : Nat) (200000 : Int32)) ∈ lw_all := lw_g (lw_at lw_m2 96 rfl) rfl
theorem q373 : (Jvm.Cond.methodLink "FsmReducerModel" (85 : Nat) ({ cls := "FsmReducerModel", name := "covers", desc := "()Z" } : Jvm.MethodName)) ∈ lw_all := lw_g (lw_at lw_m2 97 rfl) rfl
theorem q374 : (Jvm.Cond.privateMethod ({ cls := "FsmReducerModel", name := "covers", desc := "()Z" } : Jvm.MethodName)) ∈ lw_tbl := lw_at lw_m2 98 rfl
theorem q375 : (Jvm.Cond.instanceMethod ({ cls := "FsmReducerModel", name := "covers", desc := "()Z" } : Jvm.MethodName)) ∈ lw_all := lw_g (lw_at lw_m2 99 rfl) rfl
theorem q376 : (Jvm.Cond.code ({ cls := "FsmReducerModel", name := "covers", desc := "()Z" } : Jvm.MethodName) prog_3_method_26_code (5 : Nat) (Option.some Jvm.ClassFile.FieldType.boolean)) ∈ lw_all := lw_g (lw_at lw_m2 100 rfl) rfl
theorem q377 : (Jvm.Cond.methodLink "FsmReducerModel" (74 : Nat) ({ cls := "FsmReducerModel", name := "within", desc := "(I)Z" } : Jvm.MethodName)) ∈ lw_all := lw_g (lw_at lw_m2 101 rfl) rfl
theorem q378 : (Jvm.Cond.privateMethod ({ cls := "FsmReducerModel", name := "within", desc := "(I)Z" } : Jvm.MethodName)) ∈ lw_tbl := lw_at lw_m2 102 rfl
theorem q379 : (Jvm.Cond.instanceMethod ({ cls := "FsmReducerModel", name := "within", desc := "(I)Z" } : Jvm.MethodName)) ∈ lw_all := lw_g (lw_at lw_m2 103 rfl) rfl
theorem q380 : (Jvm.Cond.code ({ cls := "FsmReducerModel", name := "within", desc := "(I)Z" } : Jvm.MethodName) prog_3_method_25_code (3 : Nat) (Option.some Jvm.ClassFile.FieldType.boolean)) ∈ lw_all := lw_g (lw_at lw_m2 104 rfl) rfl
theorem q381 : (Jvm.Cond.methodLink "FsmReducerModel" (89 : Nat) ({ cls := "FsmReducerModel", name := "advance", desc := "()Z" } : Jvm.MethodName)) ∈ lw_all := lw_g (lw_at lw_m2 105 rfl) rfl
theorem q382 : (Jvm.Cond.privateMethod ({ cls := "FsmReducerModel", name := "advance", desc := "()Z" } : Jvm.MethodName)) ∈ lw_tbl := lw_at lw_m2 106 rfl
theorem q383 : (Jvm.Cond.instanceMethod ({ cls := "FsmReducerModel", name := "advance", desc := "()Z" } : Jvm.MethodName)) ∈ lw_all := lw_g (lw_at lw_m2 107 rfl) rfl
theorem q384 : (Jvm.Cond.code ({ cls := "FsmReducerModel", name := "advance", desc := "()Z" } : Jvm.MethodName) prog_3_method_27_code (4 : Nat) (Option.some Jvm.ClassFile.FieldType.boolean)) ∈ lw_all := lw_g (lw_at lw_m2 108 rfl) rfl
theorem q386 : (Jvm.Cond.instanceMethod ({ cls := "FsmReducerModel", name := "coverSet", desc := "(I)I" } : Jvm.MethodName)) ∈ lw_all := lw_g (lw_at lw_m2 110 rfl) rfl
theorem q387 : (Jvm.Cond.selects "FsmReducerModel" ({ cls := "FsmReducerModel", name := "coverSet", desc := "(I)I" } : Jvm.MethodName) ({ cls := "FsmReducerModel", name := "coverSet", desc := "(I)I" } : Jvm.MethodName)) ∈ lw_all := lw_g (lw_at lw_m2 111 rfl) rfl
theorem q388 : (Jvm.Cond.code ({ cls := "FsmReducerModel", name := "coverSet", desc := "(I)I" } : Jvm.MethodName) prog_3_method_32_code (2 : Nat) (Option.some Jvm.ClassFile.FieldType.int)) ∈ lw_all := lw_g (lw_at lw_m2 112 rfl) rfl
theorem q390 : (Jvm.Cond.instanceMethod ({ cls := "FsmReducerModel", name := "isCover", desc := "(III)I" } : Jvm.MethodName)) ∈ lw_all := lw_g (lw_at lw_m2 114 rfl) rfl
theorem q391 : (Jvm.Cond.selects "FsmReducerModel" ({ cls := "FsmReducerModel", name := "isCover", desc := "(III)I" } : Jvm.MethodName) ({ cls := "FsmReducerModel", name := "isCover", desc := "(III)I" } : Jvm.MethodName)) ∈ lw_all := lw_g (lw_at lw_m2 115 rfl) rfl
theorem q392 : (Jvm.Cond.code ({ cls := "FsmReducerModel", name := "isCover", desc := "(III)I" } : Jvm.MethodName) prog_3_method_34_code (5 : Nat) (Option.some Jvm.ClassFile.FieldType.int)) ∈ lw_all := lw_g (lw_at lw_m2 116 rfl) rfl
theorem q393 : (Jvm.Cond.methodLink "FsmReducerModel" (95 : Nat) ({ cls := "FsmReducerModel", name := "outside", desc := "(I)Z" } : Jvm.MethodName)) ∈ lw_all := lw_g (lw_at lw_m2 117 rfl) rfl
theorem q394 : (Jvm.Cond.privateMethod ({ cls := "FsmReducerModel", name := "outside", desc := "(I)Z" } : Jvm.MethodName)) ∈ lw_tbl := lw_at lw_m2 118 rfl
theorem q395 : (Jvm.Cond.instanceMethod ({ cls := "FsmReducerModel", name := "outside", desc := "(I)Z" } : Jvm.MethodName)) ∈ lw_all := lw_g (lw_at lw_m2 119 rfl) rfl
theorem q396 : (Jvm.Cond.code ({ cls := "FsmReducerModel", name := "outside", desc := "(I)Z" } : Jvm.MethodName) prog_3_method_33_code (2 : Nat) (Option.some Jvm.ClassFile.FieldType.boolean)) ∈ lw_all := lw_g (lw_at lw_m2 120 rfl) rfl
theorem q398 : (Jvm.Cond.instanceMethod ({ cls := "FsmReducerModel", name := "restart", desc := "()V" } : Jvm.MethodName)) ∈ lw_all := lw_g (lw_at lw_m2 122 rfl) rfl
theorem q399 : (Jvm.Cond.selects "FsmReducerModel" ({ cls := "FsmReducerModel", name := "restart", desc := "()V" } : Jvm.MethodName) ({ cls := "FsmReducerModel", name := "restart", desc := "()V" } : Jvm.MethodName)) ∈ lw_all := lw_g (lw_at lw_m2 123 rfl) rfl
theorem q400 : (Jvm.Cond.code ({ cls := "FsmReducerModel", name := "restart", desc := "()V" } : Jvm.MethodName) prog_3_method_35_code (1 : Nat) (Option.none : Option Jvm.ClassFile.FieldType)) ∈ lw_all := lw_g (lw_at lw_m2 124 rfl) rfl
theorem q402 : (Jvm.Cond.instanceMethod ({ cls := "FsmReducerModel", name := "read", desc := "(I)I" } : Jvm.MethodName)) ∈ lw_all := lw_g (lw_at lw_m2 126 rfl) rfl
theorem q403 : (Jvm.Cond.selects "FsmReducerModel" ({ cls := "FsmReducerModel", name := "read", desc := "(I)I" } : Jvm.MethodName) ({ cls := "FsmReducerModel", name := "read", desc := "(I)I" } : Jvm.MethodName)) ∈ lw_all := lw_g (lw_at lw_m2 127 rfl) rfl
theorem q404 : (Jvm.Cond.code ({ cls := "FsmReducerModel", name := "read", desc := "(I)I" } : Jvm.MethodName) prog_3_method_36_code (3 : Nat) (Option.some Jvm.ClassFile.FieldType.int)) ∈ lw_all := lw_g (lw_at lw_m2 128 rfl) rfl
theorem q406 : (Jvm.Cond.instanceMethod ({ cls := "FsmReducerModel", name := "lost", desc := "()I" } : Jvm.MethodName)) ∈ lw_all := lw_g (lw_at lw_m2 130 rfl) rfl
theorem q407 : (Jvm.Cond.selects "FsmReducerModel" ({ cls := "FsmReducerModel", name := "lost", desc := "()I" } : Jvm.MethodName) ({ cls := "FsmReducerModel", name := "lost", desc := "()I" } : Jvm.MethodName)) ∈ lw_all := lw_g (lw_at lw_m2 131 rfl) rfl
theorem q408 : (Jvm.Cond.code ({ cls := "FsmReducerModel", name := "lost", desc := "()I" } : Jvm.MethodName) prog_3_method_37_code (1 : Nat) (Option.some Jvm.ClassFile.FieldType.int)) ∈ lw_all := lw_g (lw_at lw_m2 132 rfl) rfl
theorem in_X2 : ∀ w ∈ wsX20, w ∈ lw_all := lw_in wsX20 [250, 252, 254, 256, 258, 260] (by decide +kernel) (by decide +kernel)
end
section
/-! FsmReducerLaw -/
set_option maxRecDepth 100000
def RX0 : String := "FsmReducerLaw"
abbrev cX0_cell : ByteArray := method_2_code
def yX0_cell : MethodName := ⟨RX0, "cell", "([II)I"⟩
theorem dX0_cell_0 : decode cX0_cell 0 = .ok (.iload_n 1, 1) := by decide +kernel
theorem dX0_cell_1 : decode cX0_cell 1 = .ok (.aload_n 0, 1) := by decide +kernel
theorem dX0_cell_2 : decode cX0_cell 2 = .ok (.arraylength, 1) := by decide +kernel
theorem dX0_cell_3 : decode cX0_cell 3 = .ok (.if_icmp .ge 9, 3) := by decide +kernel
theorem dX0_cell_6 : decode cX0_cell 6 = .ok (.aload_n 0, 1) := by decide +kernel
theorem dX0_cell_7 : decode cX0_cell 7 = .ok (.iload_n 1, 1) := by decide +kernel
theorem dX0_cell_8 : decode cX0_cell 8 = .ok (.iaload, 1) := by decide +kernel
theorem dX0_cell_9 : decode cX0_cell 9 = .ok (.goto 4, 3) := by decide +kernel
theorem dX0_cell_12 : decode cX0_cell 12 = .ok (.iconst 0, 1) := by decide +kernel
theorem dX0_cell_13 : decode cX0_cell 13 = .ok (.ireturn, 1) := by decide +kernel
theorem q36 : (Jvm.Cond.initialized "FsmReducerLaw") ∈ lw_all := lw_g (lw_at lw_m1 0 rfl) rfl
theorem q39 : (Jvm.Cond.classLink "FsmReducerLaw" (7 : Nat) "FsmReducer") ∈ lw_all := lw_g (lw_at lw_m1 3 rfl) rfl
theorem q41 : (Jvm.Cond.methodLink "FsmReducerLaw" (15 : Nat) ({ cls := "FsmReducer", name := "<init>", desc := "(I)V" } : Jvm.MethodName)) ∈ lw_all := lw_g (lw_at lw_m1 5 rfl) rfl
theorem q100 : (Jvm.Cond.methodLink "FsmReducerLaw" (21 : Nat) ({ cls := "FsmReducer", name := "states", desc := "()I" } : Jvm.MethodName)) ∈ lw_all := lw_g (lw_at lw_m1 64 rfl) rfl
theorem q104 : (Jvm.Cond.methodLink "FsmReducerLaw" (26 : Nat) ({ cls := "FsmReducer", name := "set", desc := "(III)I" } : Jvm.MethodName)) ∈ lw_all := lw_g (lw_at lw_m1 68 rfl) rfl
theorem q115 : (Jvm.Cond.methodLink "FsmReducerLaw" (31 : Nat) ({ cls := "FsmReducer", name := "entry", desc := "(II)I" } : Jvm.MethodName)) ∈ lw_all := lw_g (lw_at lw_m1 79 rfl) rfl
theorem q119 : (Jvm.Cond.methodLink "FsmReducerLaw" (36 : Nat) ({ cls := "FsmReducer", name := "compatible", desc := "(II)I" } : Jvm.MethodName)) ∈ lw_all := lw_g (lw_at lw_m1 83 rfl) rfl
theorem q180 : (Jvm.Cond.methodLink "FsmReducerLaw" (40 : Nat) ({ cls := "FsmReducer", name := "splitLength", desc := "(II)I" } : Jvm.MethodName)) ∈ lw_all := lw_g (lw_at lw_m1 144 rfl) rfl
theorem q184 : (Jvm.Cond.methodLink "FsmReducerLaw" (44 : Nat) ({ cls := "FsmReducer", name := "splitWord", desc := "(II)I" } : Jvm.MethodName)) ∈ lw_all := lw_g (lw_at lw_m1 148 rfl) rfl
theorem q188 : (Jvm.Cond.methodLink "FsmReducerLaw" (48 : Nat) ({ cls := "FsmReducer", name := "compatibleSet", desc := "(I)I" } : Jvm.MethodName)) ∈ lw_all := lw_g (lw_at lw_m1 152 rfl) rfl
theorem q196 : (Jvm.Cond.methodLink "FsmReducerLaw" (53 : Nat) ({ cls := "FsmReducer", name := "maximals", desc := "()I" } : Jvm.MethodName)) ∈ lw_all := lw_g (lw_at lw_m1 160 rfl) rfl
theorem q200 : (Jvm.Cond.methodLink "FsmReducerLaw" (57 : Nat) ({ cls := "FsmReducer", name := "maximal", desc := "(I)I" } : Jvm.MethodName)) ∈ lw_all := lw_g (lw_at lw_m1 164 rfl) rfl
theorem q204 : (Jvm.Cond.methodLink "FsmReducerLaw" (61 : Nat) ({ cls := "FsmReducer", name := "implied", desc := "(II)I" } : Jvm.MethodName)) ∈ lw_all := lw_g (lw_at lw_m1 168 rfl) rfl
theorem q208 : (Jvm.Cond.methodLink "FsmReducerLaw" (65 : Nat) ({ cls := "FsmReducer", name := "coverSize", desc := "()I" } : Jvm.MethodName)) ∈ lw_all := lw_g (lw_at lw_m1 172 rfl) rfl
theorem q212 : (Jvm.Cond.methodLink "FsmReducerLaw" (69 : Nat) ({ cls := "FsmReducer", name := "coverSet", desc := "(I)I" } : Jvm.MethodName)) ∈ lw_all := lw_g (lw_at lw_m1 176 rfl) rfl
theorem q216 : (Jvm.Cond.methodLink "FsmReducerLaw" (73 : Nat) ({ cls := "FsmReducer", name := "isCover", desc := "(III)I" } : Jvm.MethodName)) ∈ lw_all := lw_g (lw_at lw_m1 180 rfl) rfl
theorem q223 : (Jvm.Cond.methodLink "FsmReducerLaw" (77 : Nat) ({ cls := "FsmReducer", name := "restart", desc := "()V" } : Jvm.MethodName)) ∈ lw_all := lw_g (lw_at lw_m1 187 rfl) rfl
theorem q227 : (Jvm.Cond.methodLink "FsmReducerLaw" (81 : Nat) ({ cls := "FsmReducer", name := "read", desc := "(I)I" } : Jvm.MethodName)) ∈ lw_all := lw_g (lw_at lw_m1 191 rfl) rfl
theorem q231 : (Jvm.Cond.methodLink "FsmReducerLaw" (85 : Nat) ({ cls := "FsmReducer", name := "lost", desc := "()I" } : Jvm.MethodName)) ∈ lw_all := lw_g (lw_at lw_m1 195 rfl) rfl
theorem q235 : (Jvm.Cond.methodLink "FsmReducerLaw" (9 : Nat) ({ cls := "FsmReducerLaw", name := "cell", desc := "([II)I" } : Jvm.MethodName)) ∈ lw_all := lw_g (lw_at lw_m1 199 rfl) rfl
theorem q236 : (Jvm.Cond.static ({ cls := "FsmReducerLaw", name := "cell", desc := "([II)I" } : Jvm.MethodName)) ∈ lw_all := lw_g (lw_at lw_m1 200 rfl) rfl
theorem q237 : (Jvm.Cond.code ({ cls := "FsmReducerLaw", name := "cell", desc := "([II)I" } : Jvm.MethodName) method_2_code (2 : Nat) (Option.some Jvm.ClassFile.FieldType.int)) ∈ lw_all := lw_g (lw_at lw_m1 201 rfl) rfl
theorem q238 : (Jvm.Cond.classLink "FsmReducerLaw" (18 : Nat) "FsmReducerModel") ∈ lw_all := lw_g (lw_at lw_m1 202 rfl) rfl
theorem q240 : (Jvm.Cond.methodLink "FsmReducerLaw" (20 : Nat) ({ cls := "FsmReducerModel", name := "<init>", desc := "(I)V" } : Jvm.MethodName)) ∈ lw_all := lw_g (lw_at lw_m1 204 rfl) rfl
theorem q264 : (Jvm.Cond.methodLink "FsmReducerLaw" (25 : Nat) ({ cls := "FsmReducerModel", name := "states", desc := "()I" } : Jvm.MethodName)) ∈ lw_all := lw_g (lw_at lw_m1 228 rfl) rfl
theorem q268 : (Jvm.Cond.methodLink "FsmReducerLaw" (30 : Nat) ({ cls := "FsmReducerModel", name := "set", desc := "(III)I" } : Jvm.MethodName)) ∈ lw_all := lw_g (lw_at lw_m1 232 rfl) rfl
theorem q280 : (Jvm.Cond.methodLink "FsmReducerLaw" (35 : Nat) ({ cls := "FsmReducerModel", name := "entry", desc := "(II)I" } : Jvm.MethodName)) ∈ lw_all := lw_g (lw_at lw_m2 4 rfl) rfl
theorem q284 : (Jvm.Cond.methodLink "FsmReducerLaw" (39 : Nat) ({ cls := "FsmReducerModel", name := "compatible", desc := "(II)I" } : Jvm.MethodName)) ∈ lw_all := lw_g (lw_at lw_m2 8 rfl) rfl
theorem q308 : (Jvm.Cond.methodLink "FsmReducerLaw" (43 : Nat) ({ cls := "FsmReducerModel", name := "splitLength", desc := "(II)I" } : Jvm.MethodName)) ∈ lw_all := lw_g (lw_at lw_m2 32 rfl) rfl
theorem q312 : (Jvm.Cond.methodLink "FsmReducerLaw" (47 : Nat) ({ cls := "FsmReducerModel", name := "splitWord", desc := "(II)I" } : Jvm.MethodName)) ∈ lw_all := lw_g (lw_at lw_m2 36 rfl) rfl
theorem q316 : (Jvm.Cond.methodLink "FsmReducerLaw" (52 : Nat) ({ cls := "FsmReducerModel", name := "compatibleSet", desc := "(I)I" } : Jvm.MethodName)) ∈ lw_all := lw_g (lw_at lw_m2 40 rfl) rfl
theorem q336 : (Jvm.Cond.methodLink "FsmReducerLaw" (56 : Nat) ({ cls := "FsmReducerModel", name := "maximals", desc := "()I" } : Jvm.MethodName)) ∈ lw_all := lw_g (lw_at lw_m2 60 rfl) rfl
theorem q344 : (Jvm.Cond.methodLink "FsmReducerLaw" (60 : Nat) ({ cls := "FsmReducerModel", name := "maximal", desc := "(I)I" } : Jvm.MethodName)) ∈ lw_all := lw_g (lw_at lw_m2 68 rfl) rfl
theorem q348 : (Jvm.Cond.methodLink "FsmReducerLaw" (64 : Nat) ({ cls := "FsmReducerModel", name := "implied", desc := "(II)I" } : Jvm.MethodName)) ∈ lw_all := lw_g (lw_at lw_m2 72 rfl) rfl
theorem q356 : (Jvm.Cond.methodLink "FsmReducerLaw" (68 : Nat) ({ cls := "FsmReducerModel", name := "coverSize", desc := "()I" } : Jvm.MethodName)) ∈ lw_all := lw_g (lw_at lw_m2 80 rfl) rfl
theorem q385 : (Jvm.Cond.methodLink "FsmReducerLaw" (72 : Nat) ({ cls := "FsmReducerModel", name := "coverSet", desc := "(I)I" } : Jvm.MethodName)) ∈ lw_all := lw_g (lw_at lw_m2 109 rfl) rfl
theorem q389 : (Jvm.Cond.methodLink "FsmReducerLaw" (76 : Nat) ({ cls := "FsmReducerModel", name := "isCover", desc := "(III)I" } : Jvm.MethodName)) ∈ lw_all := lw_g (lw_at lw_m2 113 rfl) rfl
theorem q397 : (Jvm.Cond.methodLink "FsmReducerLaw" (80 : Nat) ({ cls := "FsmReducerModel", name := "restart", desc := "()V" } : Jvm.MethodName)) ∈ lw_all := lw_g (lw_at lw_m2 121 rfl) rfl
theorem q401 : (Jvm.Cond.methodLink "FsmReducerLaw" (84 : Nat) ({ cls := "FsmReducerModel", name := "read", desc := "(I)I" } : Jvm.MethodName)) ∈ lw_all := lw_g (lw_at lw_m2 125 rfl) rfl
theorem q405 : (Jvm.Cond.methodLink "FsmReducerLaw" (88 : Nat) ({ cls := "FsmReducerModel", name := "lost", desc := "()I" } : Jvm.MethodName)) ∈ lw_all := lw_g (lw_at lw_m2 129 rfl) rfl
/-! java/lang/Object -/
def RJ0 : String := "java/lang/Object"
abbrev cJ0_init : ByteArray := object_method_1_code
def yJ0_init : MethodName := ⟨RJ0, "<init>", "()V"⟩
theorem dJ0_init_0 : decode cJ0_init 0 = .ok (.return_, 1) := by decide +kernel
theorem q45 : (Jvm.Cond.instanceMethod ({ cls := "java/lang/Object", name := "<init>", desc := "()V" } : Jvm.MethodName)) ∈ lw_all := lw_g (lw_at lw_m1 9 rfl) rfl
theorem q46 : (Jvm.Cond.code ({ cls := "java/lang/Object", name := "<init>", desc := "()V" } : Jvm.MethodName) object_method_1_code (1 : Nat) (Option.none : Option Jvm.ClassFile.FieldType)) ∈ lw_all := lw_g (lw_at lw_m1 10 rfl) rfl
theorem q99 : (Jvm.Cond.arrayClass Jvm.ClassFile.FieldType.int) ∈ lw_all := lw_g (lw_at lw_m1 63 rfl) rfl
theorem q263 : (Jvm.Cond.arrayClass Jvm.ClassFile.FieldType.boolean) ∈ lw_all := lw_g (lw_at lw_m1 227 rfl) rfl
/-! the law's own entry -/
abbrev cL_law : ByteArray := code
theorem dL_law_0 : decode cL_law 0 = .ok (.new 7, 3) := by decide +kernel
theorem dL_law_3 : decode cL_law 3 = .ok (.dup, 1) := by decide +kernel
theorem dL_law_4 : decode cL_law 4 = .ok (.aload_n 0, 1) := by decide +kernel
theorem dL_law_5 : decode cL_law 5 = .ok (.iconst 0, 1) := by decide +kernel
theorem dL_law_6 : decode cL_law 6 = .ok (.invokestatic 9, 3) := by decide +kernel
theorem dL_law_9 : decode cL_law 9 = .ok (.invokespecial 15, 3) := by decide +kernel
theorem dL_law_12 : decode cL_law 12 = .ok (.astore_n 1, 1) := by decide +kernel
theorem dL_law_13 : decode cL_law 13 = .ok (.new 18, 3) := by decide +kernel
theorem dL_law_16 : decode cL_law 16 = .ok (.dup, 1) := by decide +kernel
theorem dL_law_17 : decode cL_law 17 = .ok (.aload_n 0, 1) := by decide +kernel
theorem dL_law_18 : decode cL_law 18 = .ok (.iconst 0, 1) := by decide +kernel
theorem dL_law_19 : decode cL_law 19 = .ok (.invokestatic 9, 3) := by decide +kernel
theorem dL_law_22 : decode cL_law 22 = .ok (.invokespecial 20, 3) := by decide +kernel
theorem dL_law_25 : decode cL_law 25 = .ok (.astore_n 2, 1) := by decide +kernel
theorem dL_law_26 : decode cL_law 26 = .ok (.iconst 1, 1) := by decide +kernel
theorem dL_law_27 : decode cL_law 27 = .ok (.istore_n 3, 1) := by decide +kernel
theorem dL_law_28 : decode cL_law 28 = .ok (.iload_n 3, 1) := by decide +kernel
theorem dL_law_29 : decode cL_law 29 = .ok (.aload_n 0, 1) := by decide +kernel
theorem dL_law_30 : decode cL_law 30 = .ok (.arraylength, 1) := by decide +kernel
theorem dL_law_31 : decode cL_law 31 = .ok (.iconst 4, 1) := by decide +kernel
theorem dL_law_32 : decode cL_law 32 = .ok (.isub, 1) := by decide +kernel
theorem dL_law_33 : decode cL_law 33 = .ok (.if_icmp .gt 499, 3) := by decide +kernel
theorem dL_law_36 : decode cL_law 36 = .ok (.aload_n 0, 1) := by decide +kernel
theorem dL_law_37 : decode cL_law 37 = .ok (.iload_n 3, 1) := by decide +kernel
theorem dL_law_38 : decode cL_law 38 = .ok (.iaload, 1) := by decide +kernel
theorem dL_law_39 : decode cL_law 39 = .ok (.bipush 15, 2) := by decide +kernel
theorem dL_law_41 : decode cL_law 41 = .ok (.iand, 1) := by decide +kernel
theorem dL_law_42 : decode cL_law 42 = .ok (.tableswitch 484 0 15 #[78, 91, 134, 167, 200, 233, 266, 289, 302, 325, 358, 371, 394, 437, 448, 471], 78) := by decide +kernel
theorem dL_law_120 : decode cL_law 120 = .ok (.aload_n 1, 1) := by decide +kernel
theorem dL_law_121 : decode cL_law 121 = .ok (.invokevirtual 21, 3) := by decide +kernel
theorem dL_law_124 : decode cL_law 124 = .ok (.aload_n 2, 1) := by decide +kernel
theorem dL_law_125 : decode cL_law 125 = .ok (.invokevirtual 25, 3) := by decide +kernel
theorem dL_law_128 : decode cL_law 128 = .ok (.if_icmp .eq 398, 3) := by decide +kernel
theorem dL_law_131 : decode cL_law 131 = .ok (.iconst 0, 1) := by decide +kernel
theorem dL_law_132 : decode cL_law 132 = .ok (.ireturn, 1) := by decide +kernel
theorem dL_law_133 : decode cL_law 133 = .ok (.aload_n 1, 1) := by decide +kernel
theorem dL_law_134 : decode cL_law 134 = .ok (.aload_n 0, 1) := by decide +kernel
theorem dL_law_135 : decode cL_law 135 = .ok (.iload_n 3, 1) := by decide +kernel
theorem dL_law_136 : decode cL_law 136 = .ok (.iconst 1, 1) := by decide +kernel
theorem dL_law_137 : decode cL_law 137 = .ok (.iadd, 1) := by decide +kernel
theorem dL_law_138 : decode cL_law 138 = .ok (.iaload, 1) := by decide +kernel
theorem dL_law_139 : decode cL_law 139 = .ok (.aload_n 0, 1) := by decide +kernel
theorem dL_law_140 : decode cL_law 140 = .ok (.iload_n 3, 1) := by decide +kernel
theorem dL_law_141 : decode cL_law 141 = .ok (.iconst 2, 1) := by decide +kernel
theorem dL_law_142 : decode cL_law 142 = .ok (.iadd, 1) := by decide +kernel
theorem dL_law_143 : decode cL_law 143 = .ok (.iaload, 1) := by decide +kernel
theorem dL_law_144 : decode cL_law 144 = .ok (.aload_n 0, 1) := by decide +kernel
theorem dL_law_145 : decode cL_law 145 = .ok (.iload_n 3, 1) := by decide +kernel
theorem dL_law_146 : decode cL_law 146 = .ok (.iconst 3, 1) := by decide +kernel
theorem dL_law_147 : decode cL_law 147 = .ok (.iadd, 1) := by decide +kernel
theorem dL_law_148 : decode cL_law 148 = .ok (.iaload, 1) := by decide +kernel
theorem dL_law_149 : decode cL_law 149 = .ok (.invokevirtual 26, 3) := by decide +kernel
theorem dL_law_152 : decode cL_law 152 = .ok (.aload_n 2, 1) := by decide +kernel
theorem dL_law_153 : decode cL_law 153 = .ok (.aload_n 0, 1) := by decide +kernel
theorem dL_law_154 : decode cL_law 154 = .ok (.iload_n 3, 1) := by decide +kernel
theorem dL_law_155 : decode cL_law 155 = .ok (.iconst 1, 1) := by decide +kernel
theorem dL_law_156 : decode cL_law 156 = .ok (.iadd, 1) := by decide +kernel
theorem dL_law_157 : decode cL_law 157 = .ok (.iaload, 1) := by decide +kernel
theorem dL_law_158 : decode cL_law 158 = .ok (.aload_n 0, 1) := by decide +kernel
theorem dL_law_159 : decode cL_law 159 = .ok (.iload_n 3, 1) := by decide +kernel
theorem dL_law_160 : decode cL_law 160 = .ok (.iconst 2, 1) := by decide +kernel
theorem dL_law_161 : decode cL_law 161 = .ok (.iadd, 1) := by decide +kernel
theorem dL_law_162 : decode cL_law 162 = .ok (.iaload, 1) := by decide +kernel
theorem dL_law_163 : decode cL_law 163 = .ok (.aload_n 0, 1) := by decide +kernel
theorem dL_law_164 : decode cL_law 164 = .ok (.iload_n 3, 1) := by decide +kernel
theorem dL_law_165 : decode cL_law 165 = .ok (.iconst 3, 1) := by decide +kernel
theorem dL_law_166 : decode cL_law 166 = .ok (.iadd, 1) := by decide +kernel
theorem dL_law_167 : decode cL_law 167 = .ok (.iaload, 1) := by decide +kernel
theorem dL_law_168 : decode cL_law 168 = .ok (.invokevirtual 30, 3) := by decide +kernel
theorem dL_law_171 : decode cL_law 171 = .ok (.if_icmp .eq 355, 3) := by decide +kernel
theorem dL_law_174 : decode cL_law 174 = .ok (.iconst 0, 1) := by decide +kernel
theorem dL_law_175 : decode cL_law 175 = .ok (.ireturn, 1) := by decide +kernel
theorem dL_law_176 : decode cL_law 176 = .ok (.aload_n 1, 1) := by decide +kernel
theorem dL_law_177 : decode cL_law 177 = .ok (.aload_n 0, 1) := by decide +kernel
theorem dL_law_178 : decode cL_law 178 = .ok (.iload_n 3, 1) := by decide +kernel
theorem dL_law_179 : decode cL_law 179 = .ok (.iconst 1, 1) := by decide +kernel
theorem dL_law_180 : decode cL_law 180 = .ok (.iadd, 1) := by decide +kernel
theorem dL_law_181 : decode cL_law 181 = .ok (.iaload, 1) := by decide +kernel
theorem dL_law_182 : decode cL_law 182 = .ok (.aload_n 0, 1) := by decide +kernel
theorem dL_law_183 : decode cL_law 183 = .ok (.iload_n 3, 1) := by decide +kernel
theorem dL_law_184 : decode cL_law 184 = .ok (.iconst 2, 1) := by decide +kernel
theorem dL_law_185 : decode cL_law 185 = .ok (.iadd, 1) := by decide +kernel
theorem dL_law_186 : decode cL_law 186 = .ok (.iaload, 1) := by decide +kernel
theorem dL_law_187 : decode cL_law 187 = .ok (.invokevirtual 31, 3) := by decide +kernel
theorem dL_law_190 : decode cL_law 190 = .ok (.aload_n 2, 1) := by decide +kernel
theorem dL_law_191 : decode cL_law 191 = .ok (.aload_n 0, 1) := by decide +kernel
theorem dL_law_192 : decode cL_law 192 = .ok (.iload_n 3, 1) := by decide +kernel
theorem dL_law_193 : decode cL_law 193 = .ok (.iconst 1, 1) := by decide +kernel
theorem dL_law_194 : decode cL_law 194 = .ok (.iadd, 1) := by decide +kernel
theorem dL_law_195 : decode cL_law 195 = .ok (.iaload, 1) := by decide +kernel
theorem dL_law_196 : decode cL_law 196 = .ok (.aload_n 0, 1) := by decide +kernel
theorem dL_law_197 : decode cL_law 197 = .ok (.iload_n 3, 1) := by decide +kernel
theorem dL_law_198 : decode cL_law 198 = .ok (.iconst 2, 1) := by decide +kernel
theorem dL_law_199 : decode cL_law 199 = .ok (.iadd, 1) := by decide +kernel
theorem dL_law_200 : decode cL_law 200 = .ok (.iaload, 1) := by decide +kernel
theorem dL_law_201 : decode cL_law 201 = .ok (.invokevirtual 35, 3) := by decide +kernel
theorem dL_law_204 : decode cL_law 204 = .ok (.if_icmp .eq 322, 3) := by decide +kernel
theorem dL_law_207 : decode cL_law 207 = .ok (.iconst 0, 1) := by decide +kernel
theorem dL_law_208 : decode cL_law 208 = .ok (.ireturn, 1) := by decide +kernel
theorem dL_law_209 : decode cL_law 209 = .ok (.aload_n 1, 1) := by decide +kernel
theorem dL_law_210 : decode cL_law 210 = .ok (.aload_n 0, 1) := by decide +kernel
theorem dL_law_211 : decode cL_law 211 = .ok (.iload_n 3, 1) := by decide +kernel
theorem dL_law_212 : decode cL_law 212 = .ok (.iconst 1, 1) := by decide +kernel
theorem dL_law_213 : decode cL_law 213 = .ok (.iadd, 1) := by decide +kernel
theorem dL_law_214 : decode cL_law 214 = .ok (.iaload, 1) := by decide +kernel
theorem dL_law_215 : decode cL_law 215 = .ok (.aload_n 0, 1) := by decide +kernel
theorem dL_law_216 : decode cL_law 216 = .ok (.iload_n 3, 1) := by decide +kernel
theorem dL_law_217 : decode cL_law 217 = .ok (.iconst 2, 1) := by decide +kernel
theorem dL_law_218 : decode cL_law 218 = .ok (.iadd, 1) := by decide +kernel
theorem dL_law_219 : decode cL_law 219 = .ok (.iaload, 1) := by decide +kernel
theorem dL_law_220 : decode cL_law 220 = .ok (.invokevirtual 36, 3) := by decide +kernel
theorem dL_law_223 : decode cL_law 223 = .ok (.aload_n 2, 1) := by decide +kernel
theorem dL_law_224 : decode cL_law 224 = .ok (.aload_n 0, 1) := by decide +kernel
theorem dL_law_225 : decode cL_law 225 = .ok (.iload_n 3, 1) := by decide +kernel
theorem dL_law_226 : decode cL_law 226 = .ok (.iconst 1, 1) := by decide +kernel
theorem dL_law_227 : decode cL_law 227 = .ok (.iadd, 1) := by decide +kernel
theorem dL_law_228 : decode cL_law 228 = .ok (.iaload, 1) := by decide +kernel
theorem dL_law_229 : decode cL_law 229 = .ok (.aload_n 0, 1) := by decide +kernel
theorem dL_law_230 : decode cL_law 230 = .ok (.iload_n 3, 1) := by decide +kernel
theorem dL_law_231 : decode cL_law 231 = .ok (.iconst 2, 1) := by decide +kernel
theorem dL_law_232 : decode cL_law 232 = .ok (.iadd, 1) := by decide +kernel
theorem dL_law_233 : decode cL_law 233 = .ok (.iaload, 1) := by decide +kernel
theorem dL_law_234 : decode cL_law 234 = .ok (.invokevirtual 39, 3) := by decide +kernel
theorem dL_law_237 : decode cL_law 237 = .ok (.if_icmp .eq 289, 3) := by decide +kernel
theorem dL_law_240 : decode cL_law 240 = .ok (.iconst 0, 1) := by decide +kernel
theorem dL_law_241 : decode cL_law 241 = .ok (.ireturn, 1) := by decide +kernel
theorem dL_law_242 : decode cL_law 242 = .ok (.aload_n 1, 1) := by decide +kernel
theorem dL_law_243 : decode cL_law 243 = .ok (.aload_n 0, 1) := by decide +kernel
theorem dL_law_244 : decode cL_law 244 = .ok (.iload_n 3, 1) := by decide +kernel
theorem dL_law_245 : decode cL_law 245 = .ok (.iconst 1, 1) := by decide +kernel
theorem dL_law_246 : decode cL_law 246 = .ok (.iadd, 1) := by decide +kernel
theorem dL_law_247 : decode cL_law 247 = .ok (.iaload, 1) := by decide +kernel
theorem dL_law_248 : decode cL_law 248 = .ok (.aload_n 0, 1) := by decide +kernel
theorem dL_law_249 : decode cL_law 249 = .ok (.iload_n 3, 1) := by decide +kernel
theorem dL_law_250 : decode cL_law 250 = .ok (.iconst 2, 1) := by decide +kernel
theorem dL_law_251 : decode cL_law 251 = .ok (.iadd, 1) := by decide +kernel
theorem dL_law_252 : decode cL_law 252 = .ok (.iaload, 1) := by decide +kernel
theorem dL_law_253 : decode cL_law 253 = .ok (.invokevirtual 40, 3) := by decide +kernel
theorem dL_law_256 : decode cL_law 256 = .ok (.aload_n 2, 1) := by decide +kernel
theorem dL_law_257 : decode cL_law 257 = .ok (.aload_n 0, 1) := by decide +kernel
theorem dL_law_258 : decode cL_law 258 = .ok (.iload_n 3, 1) := by decide +kernel
theorem dL_law_259 : decode cL_law 259 = .ok (.iconst 1, 1) := by decide +kernel
theorem dL_law_260 : decode cL_law 260 = .ok (.iadd, 1) := by decide +kernel
theorem dL_law_261 : decode cL_law 261 = .ok (.iaload, 1) := by decide +kernel
theorem dL_law_262 : decode cL_law 262 = .ok (.aload_n 0, 1) := by decide +kernel
theorem dL_law_263 : decode cL_law 263 = .ok (.iload_n 3, 1) := by decide +kernel
theorem dL_law_264 : decode cL_law 264 = .ok (.iconst 2, 1) := by decide +kernel
theorem dL_law_265 : decode cL_law 265 = .ok (.iadd, 1) := by decide +kernel
theorem dL_law_266 : decode cL_law 266 = .ok (.iaload, 1) := by decide +kernel
theorem dL_law_267 : decode cL_law 267 = .ok (.invokevirtual 43, 3) := by decide +kernel
theorem dL_law_270 : decode cL_law 270 = .ok (.if_icmp .eq 256, 3) := by decide +kernel
theorem dL_law_273 : decode cL_law 273 = .ok (.iconst 0, 1) := by decide +kernel
theorem dL_law_274 : decode cL_law 274 = .ok (.ireturn, 1) := by decide +kernel
theorem dL_law_275 : decode cL_law 275 = .ok (.aload_n 1, 1) := by decide +kernel
theorem dL_law_276 : decode cL_law 276 = .ok (.aload_n 0, 1) := by decide +kernel
theorem dL_law_277 : decode cL_law 277 = .ok (.iload_n 3, 1) := by decide +kernel
theorem dL_law_278 : decode cL_law 278 = .ok (.iconst 1, 1) := by decide +kernel
theorem dL_law_279 : decode cL_law 279 = .ok (.iadd, 1) := by decide +kernel
theorem dL_law_280 : decode cL_law 280 = .ok (.iaload, 1) := by decide +kernel
theorem dL_law_281 : decode cL_law 281 = .ok (.aload_n 0, 1) := by decide +kernel
theorem dL_law_282 : decode cL_law 282 = .ok (.iload_n 3, 1) := by decide +kernel
theorem dL_law_283 : decode cL_law 283 = .ok (.iconst 2, 1) := by decide +kernel
theorem dL_law_284 : decode cL_law 284 = .ok (.iadd, 1) := by decide +kernel
theorem dL_law_285 : decode cL_law 285 = .ok (.iaload, 1) := by decide +kernel
theorem dL_law_286 : decode cL_law 286 = .ok (.invokevirtual 44, 3) := by decide +kernel
theorem dL_law_289 : decode cL_law 289 = .ok (.aload_n 2, 1) := by decide +kernel
theorem dL_law_290 : decode cL_law 290 = .ok (.aload_n 0, 1) := by decide +kernel
theorem dL_law_291 : decode cL_law 291 = .ok (.iload_n 3, 1) := by decide +kernel
theorem dL_law_292 : decode cL_law 292 = .ok (.iconst 1, 1) := by decide +kernel
theorem dL_law_293 : decode cL_law 293 = .ok (.iadd, 1) := by decide +kernel
theorem dL_law_294 : decode cL_law 294 = .ok (.iaload, 1) := by decide +kernel
theorem dL_law_295 : decode cL_law 295 = .ok (.aload_n 0, 1) := by decide +kernel
theorem dL_law_296 : decode cL_law 296 = .ok (.iload_n 3, 1) := by decide +kernel
theorem dL_law_297 : decode cL_law 297 = .ok (.iconst 2, 1) := by decide +kernel
theorem dL_law_298 : decode cL_law 298 = .ok (.iadd, 1) := by decide +kernel
theorem dL_law_299 : decode cL_law 299 = .ok (.iaload, 1) := by decide +kernel
theorem dL_law_300 : decode cL_law 300 = .ok (.invokevirtual 47, 3) := by decide +kernel
theorem dL_law_303 : decode cL_law 303 = .ok (.if_icmp .eq 223, 3) := by decide +kernel
theorem dL_law_306 : decode cL_law 306 = .ok (.iconst 0, 1) := by decide +kernel
theorem dL_law_307 : decode cL_law 307 = .ok (.ireturn, 1) := by decide +kernel
theorem dL_law_308 : decode cL_law 308 = .ok (.aload_n 1, 1) := by decide +kernel
theorem dL_law_309 : decode cL_law 309 = .ok (.aload_n 0, 1) := by decide +kernel
theorem dL_law_310 : decode cL_law 310 = .ok (.iload_n 3, 1) := by decide +kernel
theorem dL_law_311 : decode cL_law 311 = .ok (.iconst 1, 1) := by decide +kernel
theorem dL_law_312 : decode cL_law 312 = .ok (.iadd, 1) := by decide +kernel
theorem dL_law_313 : decode cL_law 313 = .ok (.iaload, 1) := by decide +kernel
theorem dL_law_314 : decode cL_law 314 = .ok (.invokevirtual 48, 3) := by decide +kernel
theorem dL_law_317 : decode cL_law 317 = .ok (.aload_n 2, 1) := by decide +kernel
theorem dL_law_318 : decode cL_law 318 = .ok (.aload_n 0, 1) := by decide +kernel
theorem dL_law_319 : decode cL_law 319 = .ok (.iload_n 3, 1) := by decide +kernel
theorem dL_law_320 : decode cL_law 320 = .ok (.iconst 1, 1) := by decide +kernel
theorem dL_law_321 : decode cL_law 321 = .ok (.iadd, 1) := by decide +kernel
theorem dL_law_322 : decode cL_law 322 = .ok (.iaload, 1) := by decide +kernel
theorem dL_law_323 : decode cL_law 323 = .ok (.invokevirtual 52, 3) := by decide +kernel
theorem dL_law_326 : decode cL_law 326 = .ok (.if_icmp .eq 200, 3) := by decide +kernel
theorem dL_law_329 : decode cL_law 329 = .ok (.iconst 0, 1) := by decide +kernel
theorem dL_law_330 : decode cL_law 330 = .ok (.ireturn, 1) := by decide +kernel
theorem dL_law_331 : decode cL_law 331 = .ok (.aload_n 1, 1) := by decide +kernel
theorem dL_law_332 : decode cL_law 332 = .ok (.invokevirtual 53, 3) := by decide +kernel
theorem dL_law_335 : decode cL_law 335 = .ok (.aload_n 2, 1) := by decide +kernel
theorem dL_law_336 : decode cL_law 336 = .ok (.invokevirtual 56, 3) := by decide +kernel
theorem dL_law_339 : decode cL_law 339 = .ok (.if_icmp .eq 187, 3) := by decide +kernel
theorem dL_law_342 : decode cL_law 342 = .ok (.iconst 0, 1) := by decide +kernel
theorem dL_law_343 : decode cL_law 343 = .ok (.ireturn, 1) := by decide +kernel
theorem dL_law_344 : decode cL_law 344 = .ok (.aload_n 1, 1) := by decide +kernel
theorem dL_law_345 : decode cL_law 345 = .ok (.aload_n 0, 1) := by decide +kernel
theorem dL_law_346 : decode cL_law 346 = .ok (.iload_n 3, 1) := by decide +kernel
theorem dL_law_347 : decode cL_law 347 = .ok (.iconst 1, 1) := by decide +kernel
theorem dL_law_348 : decode cL_law 348 = .ok (.iadd, 1) := by decide +kernel
theorem dL_law_349 : decode cL_law 349 = .ok (.iaload, 1) := by decide +kernel
theorem dL_law_350 : decode cL_law 350 = .ok (.invokevirtual 57, 3) := by decide +kernel
theorem dL_law_353 : decode cL_law 353 = .ok (.aload_n 2, 1) := by decide +kernel
theorem dL_law_354 : decode cL_law 354 = .ok (.aload_n 0, 1) := by decide +kernel
theorem dL_law_355 : decode cL_law 355 = .ok (.iload_n 3, 1) := by decide +kernel
theorem dL_law_356 : decode cL_law 356 = .ok (.iconst 1, 1) := by decide +kernel
theorem dL_law_357 : decode cL_law 357 = .ok (.iadd, 1) := by decide +kernel
theorem dL_law_358 : decode cL_law 358 = .ok (.iaload, 1) := by decide +kernel
theorem dL_law_359 : decode cL_law 359 = .ok (.invokevirtual 60, 3) := by decide +kernel
theorem dL_law_362 : decode cL_law 362 = .ok (.if_icmp .eq 164, 3) := by decide +kernel
theorem dL_law_365 : decode cL_law 365 = .ok (.iconst 0, 1) := by decide +kernel
theorem dL_law_366 : decode cL_law 366 = .ok (.ireturn, 1) := by decide +kernel
theorem dL_law_367 : decode cL_law 367 = .ok (.aload_n 1, 1) := by decide +kernel
theorem dL_law_368 : decode cL_law 368 = .ok (.aload_n 0, 1) := by decide +kernel
theorem dL_law_369 : decode cL_law 369 = .ok (.iload_n 3, 1) := by decide +kernel
theorem dL_law_370 : decode cL_law 370 = .ok (.iconst 1, 1) := by decide +kernel
theorem dL_law_371 : decode cL_law 371 = .ok (.iadd, 1) := by decide +kernel
theorem dL_law_372 : decode cL_law 372 = .ok (.iaload, 1) := by decide +kernel
theorem dL_law_373 : decode cL_law 373 = .ok (.aload_n 0, 1) := by decide +kernel
theorem dL_law_374 : decode cL_law 374 = .ok (.iload_n 3, 1) := by decide +kernel
theorem dL_law_375 : decode cL_law 375 = .ok (.iconst 2, 1) := by decide +kernel
theorem dL_law_376 : decode cL_law 376 = .ok (.iadd, 1) := by decide +kernel
theorem dL_law_377 : decode cL_law 377 = .ok (.iaload, 1) := by decide +kernel
theorem dL_law_378 : decode cL_law 378 = .ok (.invokevirtual 61, 3) := by decide +kernel
theorem dL_law_381 : decode cL_law 381 = .ok (.aload_n 2, 1) := by decide +kernel
theorem dL_law_382 : decode cL_law 382 = .ok (.aload_n 0, 1) := by decide +kernel
theorem dL_law_383 : decode cL_law 383 = .ok (.iload_n 3, 1) := by decide +kernel
theorem dL_law_384 : decode cL_law 384 = .ok (.iconst 1, 1) := by decide +kernel
theorem dL_law_385 : decode cL_law 385 = .ok (.iadd, 1) := by decide +kernel
theorem dL_law_386 : decode cL_law 386 = .ok (.iaload, 1) := by decide +kernel
theorem dL_law_387 : decode cL_law 387 = .ok (.aload_n 0, 1) := by decide +kernel
theorem dL_law_388 : decode cL_law 388 = .ok (.iload_n 3, 1) := by decide +kernel
theorem dL_law_389 : decode cL_law 389 = .ok (.iconst 2, 1) := by decide +kernel
theorem dL_law_390 : decode cL_law 390 = .ok (.iadd, 1) := by decide +kernel
theorem dL_law_391 : decode cL_law 391 = .ok (.iaload, 1) := by decide +kernel
theorem dL_law_392 : decode cL_law 392 = .ok (.invokevirtual 64, 3) := by decide +kernel
theorem dL_law_395 : decode cL_law 395 = .ok (.if_icmp .eq 131, 3) := by decide +kernel
theorem dL_law_398 : decode cL_law 398 = .ok (.iconst 0, 1) := by decide +kernel
theorem dL_law_399 : decode cL_law 399 = .ok (.ireturn, 1) := by decide +kernel
theorem dL_law_400 : decode cL_law 400 = .ok (.aload_n 1, 1) := by decide +kernel
theorem dL_law_401 : decode cL_law 401 = .ok (.invokevirtual 65, 3) := by decide +kernel
theorem dL_law_404 : decode cL_law 404 = .ok (.aload_n 2, 1) := by decide +kernel
theorem dL_law_405 : decode cL_law 405 = .ok (.invokevirtual 68, 3) := by decide +kernel
theorem dL_law_408 : decode cL_law 408 = .ok (.if_icmp .eq 118, 3) := by decide +kernel
theorem dL_law_411 : decode cL_law 411 = .ok (.iconst 0, 1) := by decide +kernel
theorem dL_law_412 : decode cL_law 412 = .ok (.ireturn, 1) := by decide +kernel
theorem dL_law_413 : decode cL_law 413 = .ok (.aload_n 1, 1) := by decide +kernel
theorem dL_law_414 : decode cL_law 414 = .ok (.aload_n 0, 1) := by decide +kernel
theorem dL_law_415 : decode cL_law 415 = .ok (.iload_n 3, 1) := by decide +kernel
theorem dL_law_416 : decode cL_law 416 = .ok (.iconst 1, 1) := by decide +kernel
theorem dL_law_417 : decode cL_law 417 = .ok (.iadd, 1) := by decide +kernel
theorem dL_law_418 : decode cL_law 418 = .ok (.iaload, 1) := by decide +kernel
theorem dL_law_419 : decode cL_law 419 = .ok (.invokevirtual 69, 3) := by decide +kernel
theorem dL_law_422 : decode cL_law 422 = .ok (.aload_n 2, 1) := by decide +kernel
theorem dL_law_423 : decode cL_law 423 = .ok (.aload_n 0, 1) := by decide +kernel
theorem dL_law_424 : decode cL_law 424 = .ok (.iload_n 3, 1) := by decide +kernel
theorem dL_law_425 : decode cL_law 425 = .ok (.iconst 1, 1) := by decide +kernel
theorem dL_law_426 : decode cL_law 426 = .ok (.iadd, 1) := by decide +kernel
theorem dL_law_427 : decode cL_law 427 = .ok (.iaload, 1) := by decide +kernel
theorem dL_law_428 : decode cL_law 428 = .ok (.invokevirtual 72, 3) := by decide +kernel
theorem dL_law_431 : decode cL_law 431 = .ok (.if_icmp .eq 95, 3) := by decide +kernel
theorem dL_law_434 : decode cL_law 434 = .ok (.iconst 0, 1) := by decide +kernel
theorem dL_law_435 : decode cL_law 435 = .ok (.ireturn, 1) := by decide +kernel
theorem dL_law_436 : decode cL_law 436 = .ok (.aload_n 1, 1) := by decide +kernel
theorem dL_law_437 : decode cL_law 437 = .ok (.aload_n 0, 1) := by decide +kernel
theorem dL_law_438 : decode cL_law 438 = .ok (.iload_n 3, 1) := by decide +kernel
theorem dL_law_439 : decode cL_law 439 = .ok (.iconst 1, 1) := by decide +kernel
theorem dL_law_440 : decode cL_law 440 = .ok (.iadd, 1) := by decide +kernel
theorem dL_law_441 : decode cL_law 441 = .ok (.iaload, 1) := by decide +kernel
theorem dL_law_442 : decode cL_law 442 = .ok (.aload_n 0, 1) := by decide +kernel
theorem dL_law_443 : decode cL_law 443 = .ok (.iload_n 3, 1) := by decide +kernel
theorem dL_law_444 : decode cL_law 444 = .ok (.iconst 2, 1) := by decide +kernel
theorem dL_law_445 : decode cL_law 445 = .ok (.iadd, 1) := by decide +kernel
theorem dL_law_446 : decode cL_law 446 = .ok (.iaload, 1) := by decide +kernel
theorem dL_law_447 : decode cL_law 447 = .ok (.aload_n 0, 1) := by decide +kernel
theorem dL_law_448 : decode cL_law 448 = .ok (.iload_n 3, 1) := by decide +kernel
theorem dL_law_449 : decode cL_law 449 = .ok (.iconst 3, 1) := by decide +kernel
theorem dL_law_450 : decode cL_law 450 = .ok (.iadd, 1) := by decide +kernel
theorem dL_law_451 : decode cL_law 451 = .ok (.iaload, 1) := by decide +kernel
theorem dL_law_452 : decode cL_law 452 = .ok (.invokevirtual 73, 3) := by decide +kernel
theorem dL_law_455 : decode cL_law 455 = .ok (.aload_n 2, 1) := by decide +kernel
theorem dL_law_456 : decode cL_law 456 = .ok (.aload_n 0, 1) := by decide +kernel
theorem dL_law_457 : decode cL_law 457 = .ok (.iload_n 3, 1) := by decide +kernel
theorem dL_law_458 : decode cL_law 458 = .ok (.iconst 1, 1) := by decide +kernel
theorem dL_law_459 : decode cL_law 459 = .ok (.iadd, 1) := by decide +kernel
theorem dL_law_460 : decode cL_law 460 = .ok (.iaload, 1) := by decide +kernel
theorem dL_law_461 : decode cL_law 461 = .ok (.aload_n 0, 1) := by decide +kernel
theorem dL_law_462 : decode cL_law 462 = .ok (.iload_n 3, 1) := by decide +kernel
theorem dL_law_463 : decode cL_law 463 = .ok (.iconst 2, 1) := by decide +kernel
theorem dL_law_464 : decode cL_law 464 = .ok (.iadd, 1) := by decide +kernel
theorem dL_law_465 : decode cL_law 465 = .ok (.iaload, 1) := by decide +kernel
theorem dL_law_466 : decode cL_law 466 = .ok (.aload_n 0, 1) := by decide +kernel
theorem dL_law_467 : decode cL_law 467 = .ok (.iload_n 3, 1) := by decide +kernel
theorem dL_law_468 : decode cL_law 468 = .ok (.iconst 3, 1) := by decide +kernel
theorem dL_law_469 : decode cL_law 469 = .ok (.iadd, 1) := by decide +kernel
theorem dL_law_470 : decode cL_law 470 = .ok (.iaload, 1) := by decide +kernel
theorem dL_law_471 : decode cL_law 471 = .ok (.invokevirtual 76, 3) := by decide +kernel
theorem dL_law_474 : decode cL_law 474 = .ok (.if_icmp .eq 52, 3) := by decide +kernel
theorem dL_law_477 : decode cL_law 477 = .ok (.iconst 0, 1) := by decide +kernel
theorem dL_law_478 : decode cL_law 478 = .ok (.ireturn, 1) := by decide +kernel
theorem dL_law_479 : decode cL_law 479 = .ok (.aload_n 1, 1) := by decide +kernel
theorem dL_law_480 : decode cL_law 480 = .ok (.invokevirtual 77, 3) := by decide +kernel
theorem dL_law_483 : decode cL_law 483 = .ok (.aload_n 2, 1) := by decide +kernel
theorem dL_law_484 : decode cL_law 484 = .ok (.invokevirtual 80, 3) := by decide +kernel
theorem dL_law_487 : decode cL_law 487 = .ok (.goto 39, 3) := by decide +kernel
theorem dL_law_490 : decode cL_law 490 = .ok (.aload_n 1, 1) := by decide +kernel
theorem dL_law_491 : decode cL_law 491 = .ok (.aload_n 0, 1) := by decide +kernel
theorem dL_law_492 : decode cL_law 492 = .ok (.iload_n 3, 1) := by decide +kernel
theorem dL_law_493 : decode cL_law 493 = .ok (.iconst 1, 1) := by decide +kernel
theorem dL_law_494 : decode cL_law 494 = .ok (.iadd, 1) := by decide +kernel
theorem dL_law_495 : decode cL_law 495 = .ok (.iaload, 1) := by decide +kernel
theorem dL_law_496 : decode cL_law 496 = .ok (.invokevirtual 81, 3) := by decide +kernel
theorem dL_law_499 : decode cL_law 499 = .ok (.aload_n 2, 1) := by decide +kernel
theorem dL_law_500 : decode cL_law 500 = .ok (.aload_n 0, 1) := by decide +kernel
theorem dL_law_501 : decode cL_law 501 = .ok (.iload_n 3, 1) := by decide +kernel
theorem dL_law_502 : decode cL_law 502 = .ok (.iconst 1, 1) := by decide +kernel
theorem dL_law_503 : decode cL_law 503 = .ok (.iadd, 1) := by decide +kernel
theorem dL_law_504 : decode cL_law 504 = .ok (.iaload, 1) := by decide +kernel
theorem dL_law_505 : decode cL_law 505 = .ok (.invokevirtual 84, 3) := by decide +kernel
theorem dL_law_508 : decode cL_law 508 = .ok (.if_icmp .eq 18, 3) := by decide +kernel
theorem dL_law_511 : decode cL_law 511 = .ok (.iconst 0, 1) := by decide +kernel
theorem dL_law_512 : decode cL_law 512 = .ok (.ireturn, 1) := by decide +kernel
theorem dL_law_513 : decode cL_law 513 = .ok (.aload_n 1, 1) := by decide +kernel
theorem dL_law_514 : decode cL_law 514 = .ok (.invokevirtual 85, 3) := by decide +kernel
theorem dL_law_517 : decode cL_law 517 = .ok (.aload_n 2, 1) := by decide +kernel
theorem dL_law_518 : decode cL_law 518 = .ok (.invokevirtual 88, 3) := by decide +kernel
theorem dL_law_521 : decode cL_law 521 = .ok (.if_icmp .eq 5, 3) := by decide +kernel
theorem dL_law_524 : decode cL_law 524 = .ok (.iconst 0, 1) := by decide +kernel
theorem dL_law_525 : decode cL_law 525 = .ok (.ireturn, 1) := by decide +kernel
theorem dL_law_526 : decode cL_law 526 = .ok (.iinc 3 4, 3) := by decide +kernel
theorem dL_law_529 : decode cL_law 529 = .ok (.goto (-501), 3) := by decide +kernel
theorem dL_law_532 : decode cL_law 532 = .ok (.iconst 1, 1) := by decide +kernel
theorem dL_law_533 : decode cL_law 533 = .ok (.ireturn, 1) := by decide +kernel
end
section
/-! THE LAYER J: the kit's rows over one predicate that hides the heap, the frame and the machine. J X K cc nL k pc lv st w: at pc of the code cc with the values lv of the first variables, the stack st and the world w, the machine comes to the end that X asks for. -/
set_option maxRecDepth 100000
abbrev Wd : Type := Nat → Nat → Int32
def wset (w : Wd) (i k : Nat) (v : Int32) : Wd := fun j => if j = i then upd (w i) k v else w j
theorem wset_s (w : Wd) (i k : Nat) (v : Int32) : wset w i k v i k = v := by simp [wset, upd]
theorem wset_k (w : Wd) {i k k' : Nat} (v : Int32) (h : k' ≠ k) : wset w i k v i k' = w i k' := by simp [wset, upd, h]
theorem wset_i (w : Wd) {i i' k : Nat} (v : Int32) (h : i' ≠ i) : wset w i k v i' = w i' := by simp [wset, h]
def bI (b : Bool) : Int32 := if b then 1 else 0
abbrev vwCl : List vw_C := [(RX1, TX1, 17), (RX2, TX2, 6)]
abbrev Gm : Type := Program × Launch × Env × Room × State × MethodId × Array Value × List Frame × Method × Code × (Nat → Prop) × va_G × Nat × Nat × (State → Prop)
abbrev gp (X : Gm) : Program := X.1
abbrev gl (X : Gm) : Launch := X.2.1
abbrev ge (X : Gm) : Env := X.2.2.1
abbrev gR (X : Gm) : Room := X.2.2.2.1
abbrev gs (X : Gm) : State := X.2.2.2.2.1
abbrev gm (X : Gm) : MethodId := X.2.2.2.2.2.1
abbrev ga (X : Gm) : Array Value := X.2.2.2.2.2.2.1
abbrev gb (X : Gm) : List Frame := X.2.2.2.2.2.2.2.1
abbrev gt (X : Gm) : Method := X.2.2.2.2.2.2.2.2.1
abbrev gc (X : Gm) : Code := X.2.2.2.2.2.2.2.2.2.1
abbrev gA (X : Gm) : Nat → Prop := X.2.2.2.2.2.2.2.2.2.2.1
abbrev gD (X : Gm) : va_G := X.2.2.2.2.2.2.2.2.2.2.2.1
abbrev gce (X : Gm) : Nat := X.2.2.2.2.2.2.2.2.2.2.2.2.1
abbrev gsl (X : Gm) : Nat := X.2.2.2.2.2.2.2.2.2.2.2.2.2.1
abbrev gQ (X : Gm) : State → Prop := X.2.2.2.2.2.2.2.2.2.2.2.2.2.2
abbrev Kc (S : Type) : Type := String × List (ClassId × FieldType) × (S → va_W)
def Cx {S : Type} (X : Gm) (K : Kc S) (cc : ByteArray) (nL k : Nat) : Prop :=
  CallFix (gp X) (gm X) (gc X) cc nL (gs X) (ga X) lw_all K.1 ∧ va_K (gD X) vwCl K.2.1 (gs X) ∧ (∀ q : Nat, (gs X).heap.size ≤ q → gA X q) ∧ (k ≤ (gR X).frames ∧ 32 * k ≤ (gR X).locals) ∧ (gce X ≤ (gR X).cells ∧ gsl X ≤ (gR X).slots) ∧ (gt X).locks = false
def LH (ls : Array Slot) (nL : Nat) (lv : List Value) : Prop := ls.size = nL ∧ lv_wf ls ∧ ∀ (k : Nat) (v : Value), lv[k]? = some v → ls[k]? = some (.val v) ∧ v.category = 1
def J {S : Type} (X : Gm) (K : Kc S) (cc : ByteArray) (nL k pc : Nat) (lv st : List Value) (w : S) : Prop :=
  Cx X K cc nL k → ∀ (H : Heap) (locs : List Loc) (ls : Array Slot), va_P (gD X) vwCl (K.2.2 w) H → va_D (gA X) (K.2.2 w) → va_S (gA X) (gs X).heap H locs → LH ls nL lv →
    W (gp X) (gl X) (ge X) (gR X) (gs X) (gm X) (ga X) (gb X) (gt X) (gc X) H locs (gce X) (gsl X) (gQ X) (F0 (gm X) pc ls st)
theorem LH_args {v : Value} : ∀ (vs : List Value) (i k : Nat), (∀ v ∈ vs, v.category = 1) → vs[k]? = some v → (i + k, v) ∈ lv_args i vs := by
  intro vs
  induction vs with
  | nil => intro i k _ h; simp at h
  | cons a t ih =>
    intro i k hc h
    have ha : ¬ a.category = 2 := by
      have := hc a List.mem_cons_self
      omega
    rw [lv_args, if_neg ha]
    cases k with
    | zero =>
      simp at h
      subst h
      exact List.mem_cons_self
    | succ k =>
      have h1 := ih (i + 1) k (fun v hv => hc v (List.mem_cons_of_mem _ hv)) (by simpa using h)
      have e : i + (k + 1) = i + 1 + k := by omega
      rw [e]
      exact List.mem_cons_of_mem _ h1
theorem LH_entry {ls : Array Slot} {nL : Nat} {vs : List Value} (hc : ∀ v ∈ vs, v.category = 1) (h : lv_has ls nL (lv_args 0 vs)) : LH ls nL vs := by
  refine ⟨h.1, h.2.1, fun k v hv => ⟨?_, hc v (List.mem_of_getElem? hv)⟩⟩
  have := h.2.2 (0 + k, v) (LH_args vs 0 k hc hv)
  simpa using this
theorem LH_has {ls : Array Slot} {nL : Nat} {vs : List Value} (h : LH ls nL vs) : lv_has ls nL (vs.zipIdx.map (fun q => (q.2, q.1))) := by
  refine ⟨h.1, h.2.1, fun q hq => ?_⟩
  obtain ⟨⟨v, i⟩, hm, rfl⟩ := List.mem_map.mp hq
  have := List.mem_zipIdx_iff_getElem?.mp hm
  exact (h.2.2 i v this).1
def lvset (lv : List Value) (i : Nat) (v : Value) : List Value := lv.take i ++ v :: lv.drop (i + 1)
theorem LH_after {ls ls' : Array Slot} {nL : Nat} {lv : List Value} {i : Nat} {v : Value} (h : LH ls nL lv) (h' : lv_has ls' nL ((i, v) :: (lv.zipIdx.map (fun q => (q.2, q.1))).filter (fun q => !(q.1 == i) && !(q.1 + 1 == i && q.2.category == 2)))) (hc : v.category = 1) (hle : i ≤ lv.length) : LH ls' nL (lvset lv i v) := by
  refine ⟨h'.1, h'.2.1, fun k u hk => ?_⟩
  have hl : (lv.take i).length = i := by rw [List.length_take]; omega
  have key : lv[k]? = some u → k ≠ i → ls'[k]? = some (.val u) ∧ u.category = 1 := by
    intro hk' hne
    have hcu := (h.2.2 k u hk').2
    refine ⟨h'.2.2 (k, u) (List.mem_cons_of_mem _ (List.mem_filter.mpr ⟨List.mem_map.mpr ⟨(u, k), List.mem_zipIdx_iff_getElem?.mpr hk', rfl⟩, ?_⟩)), hcu⟩
    simp [hcu, hne]
  rcases Nat.lt_trichotomy k i with hlt | heq | hgt
  · refine key ?_ (by omega)
    rw [lvset, List.getElem?_append_left (by omega), List.getElem?_take_of_lt hlt] at hk
    exact hk
  · subst heq
    have hu : v = u := by
      rw [lvset, List.getElem?_append_right (by omega), hl] at hk
      simpa using hk
    subst hu
    exact ⟨h'.2.2 (k, v) List.mem_cons_self, hc⟩
  · refine key ?_ (by omega)
    rw [lvset, List.getElem?_append_right (by omega), hl] at hk
    have e1 : k - i = (k - i - 1) + 1 := by omega
    rw [e1, List.getElem?_cons_succ, List.getElem?_drop] at hk
    have e2 : i + 1 + (k - i - 1) = k := by omega
    rw [e2] at hk
    exact hk
theorem nI_and (a b : Nat) : nI a &&& nI b = nI (a &&& b) := by
  apply Int32.toBitVec_inj.mp
  show (Int32.ofNat a).toBitVec &&& (Int32.ofNat b).toBitVec = (Int32.ofNat (a &&& b)).toBitVec
  simp [BitVec.ofNat_and]
theorem nI_or (a b : Nat) : nI a ||| nI b = nI (a ||| b) := by
  apply Int32.toBitVec_inj.mp
  show (Int32.ofNat a).toBitVec ||| (Int32.ofNat b).toBitVec = (Int32.ofNat (a ||| b)).toBitVec
  simp [BitVec.ofNat_or]
theorem sh_31 : ∀ n, n < 32 → ((nI n &&& 31).toBitVec.smod 32).toNat = n := by decide +kernel
theorem nI_shl {a n : Nat} (hn : n < 32) (h : a * 2 ^ n < 2 ^ 32) : nI a <<< (nI n &&& 31) = nI (a * 2 ^ n) := pk_shlN _ n (sh_31 n hn) h
theorem nI_shr {a n : Nat} (hn : n < 32) (h : a < 2 ^ 31) : nI a >>> (nI n &&& 31) = nI (a / 2 ^ n) := pk_shrN h _ n (sh_31 n hn)
/-- s is a part of a -/
theorem nI_sub0 {s a : Nat} (hs : s < 2 ^ 31) (ha : a < 2 ^ 31) : nI s &&& (nI a ^^^ -1) = 0 ↔ s &&& a = s := by
  rw [← Int32.toBitVec_inj]
  have e : (nI s &&& (nI a ^^^ -1)).toBitVec = BitVec.ofNat 32 s &&& ~~~ BitVec.ofNat 32 a := by
    show (nI s).toBitVec &&& ((nI a).toBitVec ^^^ BitVec.allOnes 32) = _
    rw [BitVec.xor_allOnes]
    rfl
  rw [e]
  constructor
  · intro h
    apply Nat.eq_of_testBit_eq
    intro i
    rw [Nat.testBit_and]
    by_cases hi : i < 32
    · have h1 : (BitVec.ofNat 32 s &&& ~~~ BitVec.ofNat 32 a).getLsbD i = (0#32).getLsbD i := congrArg (fun (x : BitVec 32) => x.getLsbD i) h
      simp only [BitVec.getLsbD_and, BitVec.getLsbD_not, BitVec.getLsbD_ofNat, hi, decide_true, Bool.true_and, BitVec.getLsbD_zero] at h1
      cases hb : s.testBit i <;> cases hc : a.testBit i <;> simp_all
    · have : s.testBit i = false := Nat.testBit_lt_two_pow (Nat.lt_of_lt_of_le hs (Nat.pow_le_pow_right (by omega) (by omega)))
      simp [this]
  · intro h
    apply BitVec.eq_of_getLsbD_eq
    intro i hi
    have h1 : (s &&& a).testBit i = s.testBit i := congrArg (fun x : Nat => x.testBit i) h
    rw [Nat.testBit_and] at h1
    show (BitVec.ofNat 32 s &&& ~~~ BitVec.ofNat 32 a).getLsbD i = (0#32).getLsbD i
    simp only [BitVec.getLsbD_and, BitVec.getLsbD_not, BitVec.getLsbD_ofNat, hi, decide_true, Bool.true_and, BitVec.getLsbD_zero]
    cases hb : s.testBit i <;> cases hc : a.testBit i <;> simp_all
section JL
variable {S : Type} {X : Gm} {K : Kc S} {cc : ByteArray} {nL k pc : Nat} {lv st : List Value} {w : S}
theorem j_wk {lv' : List Value} (kk : J X K cc nL k pc lv' st w) (h : ∃ t, lv' ++ t = lv) : J X K cc nL k pc lv st w := by
  intro C H locs ls hP hD hS hl
  obtain ⟨t, rfl⟩ := h
  refine kk C H locs ls hP hD hS ⟨hl.1, hl.2.1, fun i v hv => hl.2.2 i v ?_⟩
  rw [List.getElem?_append_left (by rcases Nat.lt_or_ge i lv'.length with q | q; exact q; rw [List.getElem?_eq_none q] at hv; cases hv)]
  exact hv
theorem j_top {v v' : Value} (e : v = v') (kk : J X K cc nL k pc lv (v' :: st) w) : J X K cc nL k pc lv (v :: st) w := e ▸ kk
theorem j_topi {v v' : Int32} (e : v = v') (kk : J X K cc nL k pc lv (.int v' :: st) w) : J X K cc nL k pc lv (.int v :: st) w := e ▸ kk
theorem j_w {w' : S} (e : w = w') (kk : J X K cc nL k pc lv st w') : J X K cc nL k pc lv st w := e ▸ kk
theorem j_iadd {x y : Int32} (hd : decode cc pc = .ok (.iadd, 1)) (kk : J X K cc nL k (pc + 1) lv (.int (x + y) :: st) w) : J X K cc nL k pc lv (.int y :: .int x :: st) w := fun C H locs ls hP hD hS hl => lv_iadd C.1.1 C.1.2.1 hd (kk C H locs ls hP hD hS hl)
theorem j_isub {x y : Int32} (hd : decode cc pc = .ok (.isub, 1)) (kk : J X K cc nL k (pc + 1) lv (.int (x - y) :: st) w) : J X K cc nL k pc lv (.int y :: .int x :: st) w := fun C H locs ls hP hD hS hl => lv_isub C.1.1 C.1.2.1 hd (kk C H locs ls hP hD hS hl)
theorem j_imul {x y : Int32} (hd : decode cc pc = .ok (.imul, 1)) (kk : J X K cc nL k (pc + 1) lv (.int (x * y) :: st) w) : J X K cc nL k pc lv (.int y :: .int x :: st) w := fun C H locs ls hP hD hS hl => lv_imul C.1.1 C.1.2.1 hd (kk C H locs ls hP hD hS hl)
theorem j_iand {x y : Int32} (hd : decode cc pc = .ok (.iand, 1)) (kk : J X K cc nL k (pc + 1) lv (.int (x &&& y) :: st) w) : J X K cc nL k pc lv (.int y :: .int x :: st) w := fun C H locs ls hP hD hS hl => lv_iand C.1.1 C.1.2.1 hd (kk C H locs ls hP hD hS hl)
theorem j_ior {x y : Int32} (hd : decode cc pc = .ok (.ior, 1)) (kk : J X K cc nL k (pc + 1) lv (.int (x ||| y) :: st) w) : J X K cc nL k pc lv (.int y :: .int x :: st) w := fun C H locs ls hP hD hS hl => lv_ior C.1.1 C.1.2.1 hd (kk C H locs ls hP hD hS hl)
theorem j_ixor {x y : Int32} (hd : decode cc pc = .ok (.ixor, 1)) (kk : J X K cc nL k (pc + 1) lv (.int (x ^^^ y) :: st) w) : J X K cc nL k pc lv (.int y :: .int x :: st) w := fun C H locs ls hP hD hS hl => lv_ixor C.1.1 C.1.2.1 hd (kk C H locs ls hP hD hS hl)
theorem j_ishl {x y : Int32} (hd : decode cc pc = .ok (.ishl, 1)) (kk : J X K cc nL k (pc + 1) lv (.int (x <<< (y &&& 31)) :: st) w) : J X K cc nL k pc lv (.int y :: .int x :: st) w := fun C H locs ls hP hD hS hl => lv_ishl C.1.1 C.1.2.1 hd (kk C H locs ls hP hD hS hl)
theorem j_ishr {x y : Int32} (hd : decode cc pc = .ok (.ishr, 1)) (kk : J X K cc nL k (pc + 1) lv (.int (x >>> (y &&& 31)) :: st) w) : J X K cc nL k pc lv (.int y :: .int x :: st) w := fun C H locs ls hP hD hS hl => lv_ishr C.1.1 C.1.2.1 hd (kk C H locs ls hP hD hS hl)
theorem j_iaddN {a b : Nat} (hd : decode cc pc = .ok (.iadd, 1)) (kk : J X K cc nL k (pc + 1) lv (.int (nI (a + b)) :: st) w) : J X K cc nL k pc lv (.int (nI b) :: .int (nI a) :: st) w := j_iadd hd (j_topi (nI_add a b) kk)
theorem j_imulN {a b : Nat} (hd : decode cc pc = .ok (.imul, 1)) (kk : J X K cc nL k (pc + 1) lv (.int (nI (a * b)) :: st) w) : J X K cc nL k pc lv (.int (nI b) :: .int (nI a) :: st) w := j_imul hd (j_topi (pk_mul a b) kk)
theorem j_isubN {a b : Nat} (hd : decode cc pc = .ok (.isub, 1)) (h : b ≤ a) (kk : J X K cc nL k (pc + 1) lv (.int (nI (a - b)) :: st) w) : J X K cc nL k pc lv (.int (nI b) :: .int (nI a) :: st) w := j_isub hd (j_topi (pk_sub h) kk)
theorem j_iandN {a b : Nat} (hd : decode cc pc = .ok (.iand, 1)) (kk : J X K cc nL k (pc + 1) lv (.int (nI (a &&& b)) :: st) w) : J X K cc nL k pc lv (.int (nI b) :: .int (nI a) :: st) w := j_iand hd (j_topi (nI_and a b) kk)
theorem j_iorN {a b : Nat} (hd : decode cc pc = .ok (.ior, 1)) (kk : J X K cc nL k (pc + 1) lv (.int (nI (a ||| b)) :: st) w) : J X K cc nL k pc lv (.int (nI b) :: .int (nI a) :: st) w := j_ior hd (j_topi (nI_or a b) kk)
theorem j_ishlN {a b : Nat} (hd : decode cc pc = .ok (.ishl, 1)) (hn : b < 32) (h : a * 2 ^ b < 2 ^ 32) (kk : J X K cc nL k (pc + 1) lv (.int (nI (a * 2 ^ b)) :: st) w) : J X K cc nL k pc lv (.int (nI b) :: .int (nI a) :: st) w := j_ishl hd (j_topi (nI_shl hn h) kk)
theorem j_ishl1 {b : Nat} (hd : decode cc pc = .ok (.ishl, 1)) (hn : b < 31) (kk : J X K cc nL k (pc + 1) lv (.int (nI (2 ^ b)) :: st) w) : J X K cc nL k pc lv (.int (nI b) :: .int (nI 1) :: st) w := j_ishlN hd (by omega) (by rw [Nat.one_mul]; exact Nat.pow_lt_pow_right (by omega) (by omega)) (by rw [Nat.one_mul]; exact kk)
theorem j_ishrN {a b : Nat} (hd : decode cc pc = .ok (.ishr, 1)) (hn : b < 32) (h : a < 2 ^ 31) (kk : J X K cc nL k (pc + 1) lv (.int (nI (a / 2 ^ b)) :: st) w) : J X K cc nL k pc lv (.int (nI b) :: .int (nI a) :: st) w := j_ishr hd (j_topi (nI_shr hn h) kk)
theorem j_idiv {x y : Int32} (hd : decode cc pc = .ok (.idiv, 1)) (h0 : ¬ y = 0) (kk : J X K cc nL k (pc + 1) lv (.int (x / y) :: st) w) : J X K cc nL k pc lv (.int y :: .int x :: st) w := fun C H locs ls hP hD hS hl => lv_idiv C.1.1 C.1.2.1 hd h0 (kk C H locs ls hP hD hS hl)
theorem j_irem {x y : Int32} (hd : decode cc pc = .ok (.irem, 1)) (h0 : ¬ y = 0) (kk : J X K cc nL k (pc + 1) lv (.int (x - x / y * y) :: st) w) : J X K cc nL k pc lv (.int y :: .int x :: st) w := fun C H locs ls hP hD hS hl => lv_irem C.1.1 C.1.2.1 hd h0 (kk C H locs ls hP hD hS hl)
theorem j_idivN {a b : Nat} (hd : decode cc pc = .ok (.idiv, 1)) (h0 : 0 < b) (ha : a < 2 ^ 31) (hb : b < 2 ^ 31) (kk : J X K cc nL k (pc + 1) lv (.int (nI (a / b)) :: st) w) : J X K cc nL k pc lv (.int (nI b) :: .int (nI a) :: st) w := j_idiv hd (nI_ne0 h0 hb) (j_topi (pk_div ha h0 hb) kk)
theorem j_iremN {a b : Nat} (hd : decode cc pc = .ok (.irem, 1)) (h0 : 0 < b) (ha : a < 2 ^ 31) (hb : b < 2 ^ 31) (kk : J X K cc nL k (pc + 1) lv (.int (nI (a % b)) :: st) w) : J X K cc nL k pc lv (.int (nI b) :: .int (nI a) :: st) w := j_irem hd (nI_ne0 h0 hb) (j_topi (pk_rem ha h0 hb) kk)
theorem j_iconst {n : Int} (v : Int32) (hd : decode cc pc = .ok (.iconst n, 1)) (hv : Int32.ofInt n = v) (kk : J X K cc nL k (pc + 1) lv (.int v :: st) w) : J X K cc nL k pc lv st w := fun C H locs ls hP hD hS hl => lv_iconst C.1.1 C.1.2.1 hd hv (kk C H locs ls hP hD hS hl)
theorem j_bipush {n : Int} (v : Int32) (hd : decode cc pc = .ok (.bipush n, 2)) (hv : (Int8.ofInt n).toInt32 = v) (kk : J X K cc nL k (pc + 2) lv (.int v :: st) w) : J X K cc nL k pc lv st w := fun C H locs ls hP hD hS hl => lv_bipush C.1.1 C.1.2.1 hd hv (kk C H locs ls hP hD hS hl)
theorem j_sipush {n : Int} (v : Int32) (hd : decode cc pc = .ok (.sipush n, 3)) (hv : (Int16.ofInt n).toInt32 = v) (kk : J X K cc nL k (pc + 3) lv (.int v :: st) w) : J X K cc nL k pc lv st w := fun C H locs ls hP hD hS hl => lv_sipush C.1.1 C.1.2.1 hd hv (kk C H locs ls hP hD hS hl)
theorem j_ldc {index : Nat} (v : Int32) {v0 : Int32} (hd : decode cc pc = .ok (.ldc index, 2)) (hq : Cond.constant K.1 index v0 ∈ lw_all) (hv : v0 = v) (kk : J X K cc nL k (pc + 2) lv (.int v :: st) w) : J X K cc nL k pc lv st w := fun C H locs ls hP hD hS hl => lv_ldc C.1.1 C.1.2.1 C.1.2.2.2.1 (C.1.2.2.2.2 _ hq) hd (by rw [hv]; exact kk C H locs ls hP hD hS hl)
theorem j_dup {v : Value} (hd : decode cc pc = .ok (.dup, 1)) (hv : v.category = 1) (kk : J X K cc nL k (pc + 1) lv (v :: v :: st) w) : J X K cc nL k pc lv (v :: st) w := fun C H locs ls hP hD hS hl => lv_dup C.1.1 C.1.2.1 hd hv (kk C H locs ls hP hD hS hl)
theorem j_dup2 {u v : Value} (hd : decode cc pc = .ok (.dup2, 1)) (hu : u.category = 1) (hv : v.category = 1) (kk : J X K cc nL k (pc + 1) lv (u :: v :: u :: v :: st) w) : J X K cc nL k pc lv (u :: v :: st) w := fun C H locs ls hP hD hS hl => lv_dup2_11 C.1.1 C.1.2.1 hd hu hv (kk C H locs ls hP hD hS hl)
theorem j_goto {off : Int} (tgt : Nat) (hd : decode cc pc = .ok (.goto off, 3)) (ht : (pc : Int) + off = (tgt : Int)) (kk : J X K cc nL k tgt lv st w) : J X K cc nL k pc lv st w := fun C H locs ls hP hD hS hl => lv_goto C.1.1 C.1.2.1 hd ht (kk C H locs ls hP hD hS hl)
theorem j_if_eq {x : Int32} {off : Int} (tgt : Nat) (hd : decode cc pc = .ok (.ifCond .eq off, 3)) (ht : (pc : Int) + off = (tgt : Int)) (kt : x = 0 → J X K cc nL k tgt lv st w) (kf : ¬ x = 0 → J X K cc nL k (pc + 3) lv st w) : J X K cc nL k pc lv (.int x :: st) w := fun C H locs ls hP hD hS hl => lv_if_eq C.1.1 C.1.2.1 hd ht (fun c => kt c C H locs ls hP hD hS hl) (fun c => kf c C H locs ls hP hD hS hl)
theorem j_if_ne {x : Int32} {off : Int} (tgt : Nat) (hd : decode cc pc = .ok (.ifCond .ne off, 3)) (ht : (pc : Int) + off = (tgt : Int)) (kt : ¬ x = 0 → J X K cc nL k tgt lv st w) (kf : x = 0 → J X K cc nL k (pc + 3) lv st w) : J X K cc nL k pc lv (.int x :: st) w := fun C H locs ls hP hD hS hl => lv_if_ne C.1.1 C.1.2.1 hd ht (fun c => kt c C H locs ls hP hD hS hl) (fun c => kf c C H locs ls hP hD hS hl)
theorem j_if_lt {x : Int32} {off : Int} (tgt : Nat) (hd : decode cc pc = .ok (.ifCond .lt off, 3)) (ht : (pc : Int) + off = (tgt : Int)) (kt : x < 0 → J X K cc nL k tgt lv st w) (kf : ¬ x < 0 → J X K cc nL k (pc + 3) lv st w) : J X K cc nL k pc lv (.int x :: st) w := fun C H locs ls hP hD hS hl => lv_if_lt C.1.1 C.1.2.1 hd ht (fun c => kt c C H locs ls hP hD hS hl) (fun c => kf c C H locs ls hP hD hS hl)
theorem j_if_ge {x : Int32} {off : Int} (tgt : Nat) (hd : decode cc pc = .ok (.ifCond .ge off, 3)) (ht : (pc : Int) + off = (tgt : Int)) (kt : 0 ≤ x → J X K cc nL k tgt lv st w) (kf : ¬ 0 ≤ x → J X K cc nL k (pc + 3) lv st w) : J X K cc nL k pc lv (.int x :: st) w := fun C H locs ls hP hD hS hl => lv_if_ge C.1.1 C.1.2.1 hd ht (fun c => kt c C H locs ls hP hD hS hl) (fun c => kf c C H locs ls hP hD hS hl)
theorem j_if_gt {x : Int32} {off : Int} (tgt : Nat) (hd : decode cc pc = .ok (.ifCond .gt off, 3)) (ht : (pc : Int) + off = (tgt : Int)) (kt : 0 < x → J X K cc nL k tgt lv st w) (kf : ¬ 0 < x → J X K cc nL k (pc + 3) lv st w) : J X K cc nL k pc lv (.int x :: st) w := fun C H locs ls hP hD hS hl => lv_if_gt C.1.1 C.1.2.1 hd ht (fun c => kt c C H locs ls hP hD hS hl) (fun c => kf c C H locs ls hP hD hS hl)
theorem j_if_le {x : Int32} {off : Int} (tgt : Nat) (hd : decode cc pc = .ok (.ifCond .le off, 3)) (ht : (pc : Int) + off = (tgt : Int)) (kt : x ≤ 0 → J X K cc nL k tgt lv st w) (kf : ¬ x ≤ 0 → J X K cc nL k (pc + 3) lv st w) : J X K cc nL k pc lv (.int x :: st) w := fun C H locs ls hP hD hS hl => lv_if_le C.1.1 C.1.2.1 hd ht (fun c => kt c C H locs ls hP hD hS hl) (fun c => kf c C H locs ls hP hD hS hl)
theorem j_icmp_eq {x y : Int32} {off : Int} (tgt : Nat) (hd : decode cc pc = .ok (.if_icmp .eq off, 3)) (ht : (pc : Int) + off = (tgt : Int)) (kt : x = y → J X K cc nL k tgt lv st w) (kf : ¬ x = y → J X K cc nL k (pc + 3) lv st w) : J X K cc nL k pc lv (.int y :: .int x :: st) w := fun C H locs ls hP hD hS hl => lv_icmp_eq C.1.1 C.1.2.1 hd ht (fun c => kt c C H locs ls hP hD hS hl) (fun c => kf c C H locs ls hP hD hS hl)
theorem j_icmp_ne {x y : Int32} {off : Int} (tgt : Nat) (hd : decode cc pc = .ok (.if_icmp .ne off, 3)) (ht : (pc : Int) + off = (tgt : Int)) (kt : ¬ x = y → J X K cc nL k tgt lv st w) (kf : x = y → J X K cc nL k (pc + 3) lv st w) : J X K cc nL k pc lv (.int y :: .int x :: st) w := fun C H locs ls hP hD hS hl => lv_icmp_ne C.1.1 C.1.2.1 hd ht (fun c => kt c C H locs ls hP hD hS hl) (fun c => kf c C H locs ls hP hD hS hl)
theorem j_icmp_lt {x y : Int32} {off : Int} (tgt : Nat) (hd : decode cc pc = .ok (.if_icmp .lt off, 3)) (ht : (pc : Int) + off = (tgt : Int)) (kt : x < y → J X K cc nL k tgt lv st w) (kf : ¬ x < y → J X K cc nL k (pc + 3) lv st w) : J X K cc nL k pc lv (.int y :: .int x :: st) w := fun C H locs ls hP hD hS hl => lv_icmp_lt C.1.1 C.1.2.1 hd ht (fun c => kt c C H locs ls hP hD hS hl) (fun c => kf c C H locs ls hP hD hS hl)
theorem j_icmp_ge {x y : Int32} {off : Int} (tgt : Nat) (hd : decode cc pc = .ok (.if_icmp .ge off, 3)) (ht : (pc : Int) + off = (tgt : Int)) (kt : y ≤ x → J X K cc nL k tgt lv st w) (kf : ¬ y ≤ x → J X K cc nL k (pc + 3) lv st w) : J X K cc nL k pc lv (.int y :: .int x :: st) w := fun C H locs ls hP hD hS hl => lv_icmp_ge C.1.1 C.1.2.1 hd ht (fun c => kt c C H locs ls hP hD hS hl) (fun c => kf c C H locs ls hP hD hS hl)
theorem j_icmp_gt {x y : Int32} {off : Int} (tgt : Nat) (hd : decode cc pc = .ok (.if_icmp .gt off, 3)) (ht : (pc : Int) + off = (tgt : Int)) (kt : y < x → J X K cc nL k tgt lv st w) (kf : ¬ y < x → J X K cc nL k (pc + 3) lv st w) : J X K cc nL k pc lv (.int y :: .int x :: st) w := fun C H locs ls hP hD hS hl => lv_icmp_gt C.1.1 C.1.2.1 hd ht (fun c => kt c C H locs ls hP hD hS hl) (fun c => kf c C H locs ls hP hD hS hl)
theorem j_icmp_le {x y : Int32} {off : Int} (tgt : Nat) (hd : decode cc pc = .ok (.if_icmp .le off, 3)) (ht : (pc : Int) + off = (tgt : Int)) (kt : x ≤ y → J X K cc nL k tgt lv st w) (kf : ¬ x ≤ y → J X K cc nL k (pc + 3) lv st w) : J X K cc nL k pc lv (.int y :: .int x :: st) w := fun C H locs ls hP hD hS hl => lv_icmp_le C.1.1 C.1.2.1 hd ht (fun c => kt c C H locs ls hP hD hS hl) (fun c => kf c C H locs ls hP hD hS hl)
theorem j_icmp_eqN {a b : Nat} {off : Int} (tgt : Nat) (hd : decode cc pc = .ok (.if_icmp .eq off, 3)) (ht : (pc : Int) + off = (tgt : Int)) (ha : a < 2 ^ 31) (hb : b < 2 ^ 31) (kt : a = b → J X K cc nL k tgt lv st w) (kf : a ≠ b → J X K cc nL k (pc + 3) lv st w) : J X K cc nL k pc lv (.int (nI b) :: .int (nI a) :: st) w := j_icmp_eq tgt hd ht (fun c => kt ((nI_eq ha hb).mp c)) (fun c => kf (fun e => c ((nI_eq ha hb).mpr e)))
theorem j_icmp_neN {a b : Nat} {off : Int} (tgt : Nat) (hd : decode cc pc = .ok (.if_icmp .ne off, 3)) (ht : (pc : Int) + off = (tgt : Int)) (ha : a < 2 ^ 31) (hb : b < 2 ^ 31) (kt : a ≠ b → J X K cc nL k tgt lv st w) (kf : a = b → J X K cc nL k (pc + 3) lv st w) : J X K cc nL k pc lv (.int (nI b) :: .int (nI a) :: st) w := j_icmp_ne tgt hd ht (fun c => kt (fun e => c ((nI_eq ha hb).mpr e))) (fun c => kf ((nI_eq ha hb).mp c))
theorem j_icmp_ltN {a b : Nat} {off : Int} (tgt : Nat) (hd : decode cc pc = .ok (.if_icmp .lt off, 3)) (ht : (pc : Int) + off = (tgt : Int)) (ha : a < 2 ^ 31) (hb : b < 2 ^ 31) (kt : a < b → J X K cc nL k tgt lv st w) (kf : b ≤ a → J X K cc nL k (pc + 3) lv st w) : J X K cc nL k pc lv (.int (nI b) :: .int (nI a) :: st) w := j_icmp_lt tgt hd ht (fun c => kt ((nI_ltI ha hb).mp c)) (fun c => kf (Nat.not_lt.mp fun e => c ((nI_ltI ha hb).mpr e)))
theorem j_icmp_geN {a b : Nat} {off : Int} (tgt : Nat) (hd : decode cc pc = .ok (.if_icmp .ge off, 3)) (ht : (pc : Int) + off = (tgt : Int)) (ha : a < 2 ^ 31) (hb : b < 2 ^ 31) (kt : b ≤ a → J X K cc nL k tgt lv st w) (kf : a < b → J X K cc nL k (pc + 3) lv st w) : J X K cc nL k pc lv (.int (nI b) :: .int (nI a) :: st) w := j_icmp_ge tgt hd ht (fun c => kt ((nI_leI hb ha).mp c)) (fun c => kf (Nat.not_le.mp fun e => c ((nI_leI hb ha).mpr e)))
theorem j_icmp_gtN {a b : Nat} {off : Int} (tgt : Nat) (hd : decode cc pc = .ok (.if_icmp .gt off, 3)) (ht : (pc : Int) + off = (tgt : Int)) (ha : a < 2 ^ 31) (hb : b < 2 ^ 31) (kt : b < a → J X K cc nL k tgt lv st w) (kf : a ≤ b → J X K cc nL k (pc + 3) lv st w) : J X K cc nL k pc lv (.int (nI b) :: .int (nI a) :: st) w := j_icmp_gt tgt hd ht (fun c => kt ((nI_ltI hb ha).mp c)) (fun c => kf (Nat.not_lt.mp fun e => c ((nI_ltI hb ha).mpr e)))
theorem j_icmp_leN {a b : Nat} {off : Int} (tgt : Nat) (hd : decode cc pc = .ok (.if_icmp .le off, 3)) (ht : (pc : Int) + off = (tgt : Int)) (ha : a < 2 ^ 31) (hb : b < 2 ^ 31) (kt : a ≤ b → J X K cc nL k tgt lv st w) (kf : b < a → J X K cc nL k (pc + 3) lv st w) : J X K cc nL k pc lv (.int (nI b) :: .int (nI a) :: st) w := j_icmp_le tgt hd ht (fun c => kt ((nI_leI ha hb).mp c)) (fun c => kf (Nat.not_le.mp fun e => c ((nI_leI ha hb).mpr e)))
theorem nI_z {a : Nat} (ha : a < 2 ^ 31) : nI a = 0 ↔ a = 0 := ⟨fun h => (nI_eq ha (by decide)).mp (h.trans nI_0.symm), fun h => by rw [h]; exact nI_0⟩
theorem nI_le0 {a : Nat} (ha : a < 2 ^ 31) : nI a ≤ 0 ↔ a = 0 := ⟨fun h => by have := (nI_leI (b := 0) ha (by decide)).mp h; omega, fun h => by rw [h]; decide⟩
theorem j_if_eqN {a : Nat} {off : Int} (tgt : Nat) (hd : decode cc pc = .ok (.ifCond .eq off, 3)) (ht : (pc : Int) + off = (tgt : Int)) (ha : a < 2 ^ 31) (kt : a = 0 → J X K cc nL k tgt lv st w) (kf : a ≠ 0 → J X K cc nL k (pc + 3) lv st w) : J X K cc nL k pc lv (.int (nI a) :: st) w := j_if_eq tgt hd ht (fun c => kt ((nI_z ha).mp c)) (fun c => kf (fun e => c ((nI_z ha).mpr e)))
theorem j_if_neN {a : Nat} {off : Int} (tgt : Nat) (hd : decode cc pc = .ok (.ifCond .ne off, 3)) (ht : (pc : Int) + off = (tgt : Int)) (ha : a < 2 ^ 31) (kt : a ≠ 0 → J X K cc nL k tgt lv st w) (kf : a = 0 → J X K cc nL k (pc + 3) lv st w) : J X K cc nL k pc lv (.int (nI a) :: st) w := j_if_ne tgt hd ht (fun c => kt (fun e => c ((nI_z ha).mpr e))) (fun c => kf ((nI_z ha).mp c))
theorem j_if_leN {a : Nat} {off : Int} (tgt : Nat) (hd : decode cc pc = .ok (.ifCond .le off, 3)) (ht : (pc : Int) + off = (tgt : Int)) (ha : a < 2 ^ 31) (kt : a = 0 → J X K cc nL k tgt lv st w) (kf : a ≠ 0 → J X K cc nL k (pc + 3) lv st w) : J X K cc nL k pc lv (.int (nI a) :: st) w := j_if_le tgt hd ht (fun c => kt ((nI_le0 ha).mp c)) (fun c => kf (fun e => c ((nI_le0 ha).mpr e)))
theorem j_if_geN {a : Nat} {off : Int} (tgt : Nat) (hd : decode cc pc = .ok (.ifCond .ge off, 3)) (ht : (pc : Int) + off = (tgt : Int)) (ha : a < 2 ^ 31) (kt : J X K cc nL k tgt lv st w) : J X K cc nL k pc lv (.int (nI a) :: st) w := j_if_ge tgt hd ht (fun _ => kt) (fun c => absurd (nI_pos' ha) c)
theorem j_if_ltN {a : Nat} {off : Int} (tgt : Nat) (hd : decode cc pc = .ok (.ifCond .lt off, 3)) (ht : (pc : Int) + off = (tgt : Int)) (ha : a < 2 ^ 31) (kf : J X K cc nL k (pc + 3) lv st w) : J X K cc nL k pc lv (.int (nI a) :: st) w := j_if_lt tgt hd ht (fun c => absurd c (nI_pos ha)) (fun _ => kf)
theorem bI_0 {b : Bool} : bI b = 0 ↔ b = false := by cases b <;> decide
theorem j_if_eqB {b : Bool} {off : Int} (tgt : Nat) (hd : decode cc pc = .ok (.ifCond .eq off, 3)) (ht : (pc : Int) + off = (tgt : Int)) (kt : b = false → J X K cc nL k tgt lv st w) (kf : b = true → J X K cc nL k (pc + 3) lv st w) : J X K cc nL k pc lv (.int (bI b) :: st) w := j_if_eq tgt hd ht (fun c => kt (bI_0.mp c)) (fun c => kf (by cases b; exact absurd rfl c; rfl))
theorem j_if_neB {b : Bool} {off : Int} (tgt : Nat) (hd : decode cc pc = .ok (.ifCond .ne off, 3)) (ht : (pc : Int) + off = (tgt : Int)) (kt : b = true → J X K cc nL k tgt lv st w) (kf : b = false → J X K cc nL k (pc + 3) lv st w) : J X K cc nL k pc lv (.int (bI b) :: st) w := j_if_ne tgt hd ht (fun c => kt (by cases b; exact absurd rfl c; rfl)) (fun c => kf (bI_0.mp c))
theorem j_il0n {x : Int32} {tl : List Value} (hd : decode cc pc = .ok (.iload_n 0, 1)) (kk : J X K cc nL k (pc + 1) (.int x :: tl) (.int x :: st) w) : J X K cc nL k pc (.int x :: tl) st w := fun C H locs ls hP hD hS hl => lv_iload_n C.1.1 C.1.2.1 hd rfl (hl.2.2 0 _ rfl).1 (kk C H locs ls hP hD hS hl)
theorem j_il0 {x : Int32} {tl : List Value} (hd : decode cc pc = .ok (.iload 0, 2)) (kk : J X K cc nL k (pc + 2) (.int x :: tl) (.int x :: st) w) : J X K cc nL k pc (.int x :: tl) st w := fun C H locs ls hP hD hS hl => lv_iload C.1.1 C.1.2.1 hd (hl.2.2 0 _ rfl).1 (kk C H locs ls hP hD hS hl)
theorem j_al0n {x : Nat} {tl : List Value} (hd : decode cc pc = .ok (.aload_n 0, 1)) (kk : J X K cc nL k (pc + 1) (.ref x :: tl) (.ref x :: st) w) : J X K cc nL k pc (.ref x :: tl) st w := fun C H locs ls hP hD hS hl => lv_aload_n C.1.1 C.1.2.1 hd rfl (hl.2.2 0 _ rfl).1 (kk C H locs ls hP hD hS hl)
theorem j_il1n {a0 : Value} {x : Int32} {tl : List Value} (hd : decode cc pc = .ok (.iload_n 1, 1)) (kk : J X K cc nL k (pc + 1) (a0 :: .int x :: tl) (.int x :: st) w) : J X K cc nL k pc (a0 :: .int x :: tl) st w := fun C H locs ls hP hD hS hl => lv_iload_n C.1.1 C.1.2.1 hd rfl (hl.2.2 1 _ rfl).1 (kk C H locs ls hP hD hS hl)
theorem j_il1 {a0 : Value} {x : Int32} {tl : List Value} (hd : decode cc pc = .ok (.iload 1, 2)) (kk : J X K cc nL k (pc + 2) (a0 :: .int x :: tl) (.int x :: st) w) : J X K cc nL k pc (a0 :: .int x :: tl) st w := fun C H locs ls hP hD hS hl => lv_iload C.1.1 C.1.2.1 hd (hl.2.2 1 _ rfl).1 (kk C H locs ls hP hD hS hl)
theorem j_al1n {a0 : Value} {x : Nat} {tl : List Value} (hd : decode cc pc = .ok (.aload_n 1, 1)) (kk : J X K cc nL k (pc + 1) (a0 :: .ref x :: tl) (.ref x :: st) w) : J X K cc nL k pc (a0 :: .ref x :: tl) st w := fun C H locs ls hP hD hS hl => lv_aload_n C.1.1 C.1.2.1 hd rfl (hl.2.2 1 _ rfl).1 (kk C H locs ls hP hD hS hl)
theorem j_il2n {a0 a1 : Value} {x : Int32} {tl : List Value} (hd : decode cc pc = .ok (.iload_n 2, 1)) (kk : J X K cc nL k (pc + 1) (a0 :: a1 :: .int x :: tl) (.int x :: st) w) : J X K cc nL k pc (a0 :: a1 :: .int x :: tl) st w := fun C H locs ls hP hD hS hl => lv_iload_n C.1.1 C.1.2.1 hd rfl (hl.2.2 2 _ rfl).1 (kk C H locs ls hP hD hS hl)
theorem j_il2 {a0 a1 : Value} {x : Int32} {tl : List Value} (hd : decode cc pc = .ok (.iload 2, 2)) (kk : J X K cc nL k (pc + 2) (a0 :: a1 :: .int x :: tl) (.int x :: st) w) : J X K cc nL k pc (a0 :: a1 :: .int x :: tl) st w := fun C H locs ls hP hD hS hl => lv_iload C.1.1 C.1.2.1 hd (hl.2.2 2 _ rfl).1 (kk C H locs ls hP hD hS hl)
theorem j_al2n {a0 a1 : Value} {x : Nat} {tl : List Value} (hd : decode cc pc = .ok (.aload_n 2, 1)) (kk : J X K cc nL k (pc + 1) (a0 :: a1 :: .ref x :: tl) (.ref x :: st) w) : J X K cc nL k pc (a0 :: a1 :: .ref x :: tl) st w := fun C H locs ls hP hD hS hl => lv_aload_n C.1.1 C.1.2.1 hd rfl (hl.2.2 2 _ rfl).1 (kk C H locs ls hP hD hS hl)
theorem j_il3n {a0 a1 a2 : Value} {x : Int32} {tl : List Value} (hd : decode cc pc = .ok (.iload_n 3, 1)) (kk : J X K cc nL k (pc + 1) (a0 :: a1 :: a2 :: .int x :: tl) (.int x :: st) w) : J X K cc nL k pc (a0 :: a1 :: a2 :: .int x :: tl) st w := fun C H locs ls hP hD hS hl => lv_iload_n C.1.1 C.1.2.1 hd rfl (hl.2.2 3 _ rfl).1 (kk C H locs ls hP hD hS hl)
theorem j_il3 {a0 a1 a2 : Value} {x : Int32} {tl : List Value} (hd : decode cc pc = .ok (.iload 3, 2)) (kk : J X K cc nL k (pc + 2) (a0 :: a1 :: a2 :: .int x :: tl) (.int x :: st) w) : J X K cc nL k pc (a0 :: a1 :: a2 :: .int x :: tl) st w := fun C H locs ls hP hD hS hl => lv_iload C.1.1 C.1.2.1 hd (hl.2.2 3 _ rfl).1 (kk C H locs ls hP hD hS hl)
theorem j_il4 {a0 a1 a2 a3 : Value} {x : Int32} {tl : List Value} (hd : decode cc pc = .ok (.iload 4, 2)) (kk : J X K cc nL k (pc + 2) (a0 :: a1 :: a2 :: a3 :: .int x :: tl) (.int x :: st) w) : J X K cc nL k pc (a0 :: a1 :: a2 :: a3 :: .int x :: tl) st w := fun C H locs ls hP hD hS hl => lv_iload C.1.1 C.1.2.1 hd (hl.2.2 4 _ rfl).1 (kk C H locs ls hP hD hS hl)
theorem j_il5 {a0 a1 a2 a3 a4 : Value} {x : Int32} {tl : List Value} (hd : decode cc pc = .ok (.iload 5, 2)) (kk : J X K cc nL k (pc + 2) (a0 :: a1 :: a2 :: a3 :: a4 :: .int x :: tl) (.int x :: st) w) : J X K cc nL k pc (a0 :: a1 :: a2 :: a3 :: a4 :: .int x :: tl) st w := fun C H locs ls hP hD hS hl => lv_iload C.1.1 C.1.2.1 hd (hl.2.2 5 _ rfl).1 (kk C H locs ls hP hD hS hl)
theorem j_il6 {a0 a1 a2 a3 a4 a5 : Value} {x : Int32} {tl : List Value} (hd : decode cc pc = .ok (.iload 6, 2)) (kk : J X K cc nL k (pc + 2) (a0 :: a1 :: a2 :: a3 :: a4 :: a5 :: .int x :: tl) (.int x :: st) w) : J X K cc nL k pc (a0 :: a1 :: a2 :: a3 :: a4 :: a5 :: .int x :: tl) st w := fun C H locs ls hP hD hS hl => lv_iload C.1.1 C.1.2.1 hd (hl.2.2 6 _ rfl).1 (kk C H locs ls hP hD hS hl)
theorem j_il7 {a0 a1 a2 a3 a4 a5 a6 : Value} {x : Int32} {tl : List Value} (hd : decode cc pc = .ok (.iload 7, 2)) (kk : J X K cc nL k (pc + 2) (a0 :: a1 :: a2 :: a3 :: a4 :: a5 :: a6 :: .int x :: tl) (.int x :: st) w) : J X K cc nL k pc (a0 :: a1 :: a2 :: a3 :: a4 :: a5 :: a6 :: .int x :: tl) st w := fun C H locs ls hP hD hS hl => lv_iload C.1.1 C.1.2.1 hd (hl.2.2 7 _ rfl).1 (kk C H locs ls hP hD hS hl)
theorem j_il8 {a0 a1 a2 a3 a4 a5 a6 a7 : Value} {x : Int32} {tl : List Value} (hd : decode cc pc = .ok (.iload 8, 2)) (kk : J X K cc nL k (pc + 2) (a0 :: a1 :: a2 :: a3 :: a4 :: a5 :: a6 :: a7 :: .int x :: tl) (.int x :: st) w) : J X K cc nL k pc (a0 :: a1 :: a2 :: a3 :: a4 :: a5 :: a6 :: a7 :: .int x :: tl) st w := fun C H locs ls hP hD hS hl => lv_iload C.1.1 C.1.2.1 hd (hl.2.2 8 _ rfl).1 (kk C H locs ls hP hD hS hl)
theorem j_il9 {a0 a1 a2 a3 a4 a5 a6 a7 a8 : Value} {x : Int32} {tl : List Value} (hd : decode cc pc = .ok (.iload 9, 2)) (kk : J X K cc nL k (pc + 2) (a0 :: a1 :: a2 :: a3 :: a4 :: a5 :: a6 :: a7 :: a8 :: .int x :: tl) (.int x :: st) w) : J X K cc nL k pc (a0 :: a1 :: a2 :: a3 :: a4 :: a5 :: a6 :: a7 :: a8 :: .int x :: tl) st w := fun C H locs ls hP hD hS hl => lv_iload C.1.1 C.1.2.1 hd (hl.2.2 9 _ rfl).1 (kk C H locs ls hP hD hS hl)
theorem j_il10 {a0 a1 a2 a3 a4 a5 a6 a7 a8 a9 : Value} {x : Int32} {tl : List Value} (hd : decode cc pc = .ok (.iload 10, 2)) (kk : J X K cc nL k (pc + 2) (a0 :: a1 :: a2 :: a3 :: a4 :: a5 :: a6 :: a7 :: a8 :: a9 :: .int x :: tl) (.int x :: st) w) : J X K cc nL k pc (a0 :: a1 :: a2 :: a3 :: a4 :: a5 :: a6 :: a7 :: a8 :: a9 :: .int x :: tl) st w := fun C H locs ls hP hD hS hl => lv_iload C.1.1 C.1.2.1 hd (hl.2.2 10 _ rfl).1 (kk C H locs ls hP hD hS hl)
theorem j_istn {i : Fin 4} {x : Int32} {lv' : List Value} (hd : decode cc pc = .ok (.istore_n i, 1)) (hn : (i : Nat) < nL) (hle : (i : Nat) ≤ lv.length) (hlv : lvset lv i (.int x) = lv') (kk : J X K cc nL k (pc + 1) lv' st w) : J X K cc nL k pc lv (.int x :: st) w := fun C H locs ls hP hD hS hl => lv_istore_n C.1.1 C.1.2.1 hd rfl (LH_has hl) hn rfl (fun ls' h' => kk C H locs ls' hP hD hS (hlv ▸ LH_after hl h' rfl hle))
theorem j_ist {i : Nat} {x : Int32} {lv' : List Value} (hd : decode cc pc = .ok (.istore i, 2)) (hn : i < nL) (hle : i ≤ lv.length) (hlv : lvset lv i (.int x) = lv') (kk : J X K cc nL k (pc + 2) lv' st w) : J X K cc nL k pc lv (.int x :: st) w := fun C H locs ls hP hD hS hl => lv_istore C.1.1 C.1.2.1 hd (LH_has hl) hn rfl (fun ls' h' => kk C H locs ls' hP hD hS (hlv ▸ LH_after hl h' rfl hle))
theorem j_iinc {i : Nat} {n : Int} {x v : Int32} {lv' : List Value} (hd : decode cc pc = .ok (.iinc i n, 3)) (hx : lv[i]? = some (.int x)) (hv : x + Int32.ofInt n = v) (hn : i < nL) (hlv : lvset lv i (.int v) = lv') (kk : J X K cc nL k (pc + 3) lv' st w) : J X K cc nL k pc lv st w := by
  intro C H locs ls hP hD hS hl
  have hi : i < lv.length := (List.getElem?_eq_some_iff.mp hx).1
  refine lv_iinc (k := i) C.1.1 C.1.2.1 hd (LH_has hl) ?_ hv hn rfl (fun ls' h' => kk C H locs ls' hP hD hS (hlv ▸ LH_after hl h' rfl (Nat.le_of_lt hi)))
  rw [List.getElem?_map, List.getElem?_zipIdx, hx]
  simp
theorem j_st0n_s {b : Value} {x : Int32} {tl : List Value} (hd : decode cc pc = .ok (.istore_n 0, 1)) (kk : J X K cc nL k (pc + 1) (.int x :: tl) st w) (hn : 0 < nL := by decide) : J X K cc nL k pc (b :: tl) (.int x :: st) w := j_istn hd hn (by show 0 ≤ _; simp only [List.length_cons, List.length_nil]; omega) rfl kk
theorem j_st0n_a {x : Int32} (hd : decode cc pc = .ok (.istore_n 0, 1)) (kk : J X K cc nL k (pc + 1) [.int x] st w) (hn : 0 < nL := by decide) : J X K cc nL k pc [] (.int x :: st) w := j_istn hd hn (by show 0 ≤ _; simp only [List.length_cons, List.length_nil]; omega) rfl kk
theorem j_st0_s {b : Value} {x : Int32} {tl : List Value} (hd : decode cc pc = .ok (.istore 0, 2)) (kk : J X K cc nL k (pc + 2) (.int x :: tl) st w) (hn : 0 < nL := by decide) : J X K cc nL k pc (b :: tl) (.int x :: st) w := j_ist hd hn (by show 0 ≤ _; simp only [List.length_cons, List.length_nil]; omega) rfl kk
theorem j_st0_a {x : Int32} (hd : decode cc pc = .ok (.istore 0, 2)) (kk : J X K cc nL k (pc + 2) [.int x] st w) (hn : 0 < nL := by decide) : J X K cc nL k pc [] (.int x :: st) w := j_ist hd hn (by show 0 ≤ _; simp only [List.length_cons, List.length_nil]; omega) rfl kk
theorem j_inc0 {x : Int32} {tl : List Value} {n : Int} (v : Int32) (hd : decode cc pc = .ok (.iinc 0 n, 3)) (hv : x + Int32.ofInt n = v) (kk : J X K cc nL k (pc + 3) (.int v :: tl) st w) (hn : 0 < nL := by decide) : J X K cc nL k pc (.int x :: tl) st w := j_iinc hd rfl hv hn rfl kk
theorem j_inc0N {a : Nat} {tl : List Value} (hd : decode cc pc = .ok (.iinc 0 1, 3)) (kk : J X K cc nL k (pc + 3) (.int (nI (a + 1)) :: tl) st w) (hn : 0 < nL := by decide) : J X K cc nL k pc (.int (nI a) :: tl) st w := j_inc0 _ hd (nI_1 a) kk hn
theorem j_dec0N {a : Nat} {tl : List Value} (hd : decode cc pc = .ok (.iinc 0 (-1), 3)) (h0 : 0 < a) (kk : J X K cc nL k (pc + 3) (.int (nI (a - 1)) :: tl) st w) (hn : 0 < nL := by decide) : J X K cc nL k pc (.int (nI a) :: tl) st w := j_inc0 _ hd (sb_m1 h0) kk hn
theorem j_st1n_s {a0 : Value} {b : Value} {x : Int32} {tl : List Value} (hd : decode cc pc = .ok (.istore_n 1, 1)) (kk : J X K cc nL k (pc + 1) (a0 :: .int x :: tl) st w) (hn : 1 < nL := by decide) : J X K cc nL k pc (a0 :: b :: tl) (.int x :: st) w := j_istn hd hn (by show 1 ≤ _; simp only [List.length_cons, List.length_nil]; omega) rfl kk
theorem j_st1n_a {a0 : Value} {x : Int32} (hd : decode cc pc = .ok (.istore_n 1, 1)) (kk : J X K cc nL k (pc + 1) [a0, .int x] st w) (hn : 1 < nL := by decide) : J X K cc nL k pc [a0] (.int x :: st) w := j_istn hd hn (by show 1 ≤ _; simp only [List.length_cons, List.length_nil]; omega) rfl kk
theorem j_st1_s {a0 : Value} {b : Value} {x : Int32} {tl : List Value} (hd : decode cc pc = .ok (.istore 1, 2)) (kk : J X K cc nL k (pc + 2) (a0 :: .int x :: tl) st w) (hn : 1 < nL := by decide) : J X K cc nL k pc (a0 :: b :: tl) (.int x :: st) w := j_ist hd hn (by show 1 ≤ _; simp only [List.length_cons, List.length_nil]; omega) rfl kk
theorem j_st1_a {a0 : Value} {x : Int32} (hd : decode cc pc = .ok (.istore 1, 2)) (kk : J X K cc nL k (pc + 2) [a0, .int x] st w) (hn : 1 < nL := by decide) : J X K cc nL k pc [a0] (.int x :: st) w := j_ist hd hn (by show 1 ≤ _; simp only [List.length_cons, List.length_nil]; omega) rfl kk
theorem j_inc1 {a0 : Value} {x : Int32} {tl : List Value} {n : Int} (v : Int32) (hd : decode cc pc = .ok (.iinc 1 n, 3)) (hv : x + Int32.ofInt n = v) (kk : J X K cc nL k (pc + 3) (a0 :: .int v :: tl) st w) (hn : 1 < nL := by decide) : J X K cc nL k pc (a0 :: .int x :: tl) st w := j_iinc hd rfl hv hn rfl kk
theorem j_inc1N {a0 : Value} {a : Nat} {tl : List Value} (hd : decode cc pc = .ok (.iinc 1 1, 3)) (kk : J X K cc nL k (pc + 3) (a0 :: .int (nI (a + 1)) :: tl) st w) (hn : 1 < nL := by decide) : J X K cc nL k pc (a0 :: .int (nI a) :: tl) st w := j_inc1 _ hd (nI_1 a) kk hn
theorem j_dec1N {a0 : Value} {a : Nat} {tl : List Value} (hd : decode cc pc = .ok (.iinc 1 (-1), 3)) (h0 : 0 < a) (kk : J X K cc nL k (pc + 3) (a0 :: .int (nI (a - 1)) :: tl) st w) (hn : 1 < nL := by decide) : J X K cc nL k pc (a0 :: .int (nI a) :: tl) st w := j_inc1 _ hd (sb_m1 h0) kk hn
theorem j_st2n_s {a0 a1 : Value} {b : Value} {x : Int32} {tl : List Value} (hd : decode cc pc = .ok (.istore_n 2, 1)) (kk : J X K cc nL k (pc + 1) (a0 :: a1 :: .int x :: tl) st w) (hn : 2 < nL := by decide) : J X K cc nL k pc (a0 :: a1 :: b :: tl) (.int x :: st) w := j_istn hd hn (by show 2 ≤ _; simp only [List.length_cons, List.length_nil]; omega) rfl kk
theorem j_st2n_a {a0 a1 : Value} {x : Int32} (hd : decode cc pc = .ok (.istore_n 2, 1)) (kk : J X K cc nL k (pc + 1) [a0, a1, .int x] st w) (hn : 2 < nL := by decide) : J X K cc nL k pc [a0, a1] (.int x :: st) w := j_istn hd hn (by show 2 ≤ _; simp only [List.length_cons, List.length_nil]; omega) rfl kk
theorem j_st2_s {a0 a1 : Value} {b : Value} {x : Int32} {tl : List Value} (hd : decode cc pc = .ok (.istore 2, 2)) (kk : J X K cc nL k (pc + 2) (a0 :: a1 :: .int x :: tl) st w) (hn : 2 < nL := by decide) : J X K cc nL k pc (a0 :: a1 :: b :: tl) (.int x :: st) w := j_ist hd hn (by show 2 ≤ _; simp only [List.length_cons, List.length_nil]; omega) rfl kk
theorem j_st2_a {a0 a1 : Value} {x : Int32} (hd : decode cc pc = .ok (.istore 2, 2)) (kk : J X K cc nL k (pc + 2) [a0, a1, .int x] st w) (hn : 2 < nL := by decide) : J X K cc nL k pc [a0, a1] (.int x :: st) w := j_ist hd hn (by show 2 ≤ _; simp only [List.length_cons, List.length_nil]; omega) rfl kk
theorem j_inc2 {a0 a1 : Value} {x : Int32} {tl : List Value} {n : Int} (v : Int32) (hd : decode cc pc = .ok (.iinc 2 n, 3)) (hv : x + Int32.ofInt n = v) (kk : J X K cc nL k (pc + 3) (a0 :: a1 :: .int v :: tl) st w) (hn : 2 < nL := by decide) : J X K cc nL k pc (a0 :: a1 :: .int x :: tl) st w := j_iinc hd rfl hv hn rfl kk
theorem j_inc2N {a0 a1 : Value} {a : Nat} {tl : List Value} (hd : decode cc pc = .ok (.iinc 2 1, 3)) (kk : J X K cc nL k (pc + 3) (a0 :: a1 :: .int (nI (a + 1)) :: tl) st w) (hn : 2 < nL := by decide) : J X K cc nL k pc (a0 :: a1 :: .int (nI a) :: tl) st w := j_inc2 _ hd (nI_1 a) kk hn
theorem j_dec2N {a0 a1 : Value} {a : Nat} {tl : List Value} (hd : decode cc pc = .ok (.iinc 2 (-1), 3)) (h0 : 0 < a) (kk : J X K cc nL k (pc + 3) (a0 :: a1 :: .int (nI (a - 1)) :: tl) st w) (hn : 2 < nL := by decide) : J X K cc nL k pc (a0 :: a1 :: .int (nI a) :: tl) st w := j_inc2 _ hd (sb_m1 h0) kk hn
theorem j_st3n_s {a0 a1 a2 : Value} {b : Value} {x : Int32} {tl : List Value} (hd : decode cc pc = .ok (.istore_n 3, 1)) (kk : J X K cc nL k (pc + 1) (a0 :: a1 :: a2 :: .int x :: tl) st w) (hn : 3 < nL := by decide) : J X K cc nL k pc (a0 :: a1 :: a2 :: b :: tl) (.int x :: st) w := j_istn hd hn (by show 3 ≤ _; simp only [List.length_cons, List.length_nil]; omega) rfl kk
theorem j_st3n_a {a0 a1 a2 : Value} {x : Int32} (hd : decode cc pc = .ok (.istore_n 3, 1)) (kk : J X K cc nL k (pc + 1) [a0, a1, a2, .int x] st w) (hn : 3 < nL := by decide) : J X K cc nL k pc [a0, a1, a2] (.int x :: st) w := j_istn hd hn (by show 3 ≤ _; simp only [List.length_cons, List.length_nil]; omega) rfl kk
theorem j_st3_s {a0 a1 a2 : Value} {b : Value} {x : Int32} {tl : List Value} (hd : decode cc pc = .ok (.istore 3, 2)) (kk : J X K cc nL k (pc + 2) (a0 :: a1 :: a2 :: .int x :: tl) st w) (hn : 3 < nL := by decide) : J X K cc nL k pc (a0 :: a1 :: a2 :: b :: tl) (.int x :: st) w := j_ist hd hn (by show 3 ≤ _; simp only [List.length_cons, List.length_nil]; omega) rfl kk
theorem j_st3_a {a0 a1 a2 : Value} {x : Int32} (hd : decode cc pc = .ok (.istore 3, 2)) (kk : J X K cc nL k (pc + 2) [a0, a1, a2, .int x] st w) (hn : 3 < nL := by decide) : J X K cc nL k pc [a0, a1, a2] (.int x :: st) w := j_ist hd hn (by show 3 ≤ _; simp only [List.length_cons, List.length_nil]; omega) rfl kk
theorem j_inc3 {a0 a1 a2 : Value} {x : Int32} {tl : List Value} {n : Int} (v : Int32) (hd : decode cc pc = .ok (.iinc 3 n, 3)) (hv : x + Int32.ofInt n = v) (kk : J X K cc nL k (pc + 3) (a0 :: a1 :: a2 :: .int v :: tl) st w) (hn : 3 < nL := by decide) : J X K cc nL k pc (a0 :: a1 :: a2 :: .int x :: tl) st w := j_iinc hd rfl hv hn rfl kk
theorem j_inc3N {a0 a1 a2 : Value} {a : Nat} {tl : List Value} (hd : decode cc pc = .ok (.iinc 3 1, 3)) (kk : J X K cc nL k (pc + 3) (a0 :: a1 :: a2 :: .int (nI (a + 1)) :: tl) st w) (hn : 3 < nL := by decide) : J X K cc nL k pc (a0 :: a1 :: a2 :: .int (nI a) :: tl) st w := j_inc3 _ hd (nI_1 a) kk hn
theorem j_dec3N {a0 a1 a2 : Value} {a : Nat} {tl : List Value} (hd : decode cc pc = .ok (.iinc 3 (-1), 3)) (h0 : 0 < a) (kk : J X K cc nL k (pc + 3) (a0 :: a1 :: a2 :: .int (nI (a - 1)) :: tl) st w) (hn : 3 < nL := by decide) : J X K cc nL k pc (a0 :: a1 :: a2 :: .int (nI a) :: tl) st w := j_inc3 _ hd (sb_m1 h0) kk hn
theorem j_st4_s {a0 a1 a2 a3 : Value} {b : Value} {x : Int32} {tl : List Value} (hd : decode cc pc = .ok (.istore 4, 2)) (kk : J X K cc nL k (pc + 2) (a0 :: a1 :: a2 :: a3 :: .int x :: tl) st w) (hn : 4 < nL := by decide) : J X K cc nL k pc (a0 :: a1 :: a2 :: a3 :: b :: tl) (.int x :: st) w := j_ist hd hn (by show 4 ≤ _; simp only [List.length_cons, List.length_nil]; omega) rfl kk
theorem j_st4_a {a0 a1 a2 a3 : Value} {x : Int32} (hd : decode cc pc = .ok (.istore 4, 2)) (kk : J X K cc nL k (pc + 2) [a0, a1, a2, a3, .int x] st w) (hn : 4 < nL := by decide) : J X K cc nL k pc [a0, a1, a2, a3] (.int x :: st) w := j_ist hd hn (by show 4 ≤ _; simp only [List.length_cons, List.length_nil]; omega) rfl kk
theorem j_inc4 {a0 a1 a2 a3 : Value} {x : Int32} {tl : List Value} {n : Int} (v : Int32) (hd : decode cc pc = .ok (.iinc 4 n, 3)) (hv : x + Int32.ofInt n = v) (kk : J X K cc nL k (pc + 3) (a0 :: a1 :: a2 :: a3 :: .int v :: tl) st w) (hn : 4 < nL := by decide) : J X K cc nL k pc (a0 :: a1 :: a2 :: a3 :: .int x :: tl) st w := j_iinc hd rfl hv hn rfl kk
theorem j_inc4N {a0 a1 a2 a3 : Value} {a : Nat} {tl : List Value} (hd : decode cc pc = .ok (.iinc 4 1, 3)) (kk : J X K cc nL k (pc + 3) (a0 :: a1 :: a2 :: a3 :: .int (nI (a + 1)) :: tl) st w) (hn : 4 < nL := by decide) : J X K cc nL k pc (a0 :: a1 :: a2 :: a3 :: .int (nI a) :: tl) st w := j_inc4 _ hd (nI_1 a) kk hn
theorem j_dec4N {a0 a1 a2 a3 : Value} {a : Nat} {tl : List Value} (hd : decode cc pc = .ok (.iinc 4 (-1), 3)) (h0 : 0 < a) (kk : J X K cc nL k (pc + 3) (a0 :: a1 :: a2 :: a3 :: .int (nI (a - 1)) :: tl) st w) (hn : 4 < nL := by decide) : J X K cc nL k pc (a0 :: a1 :: a2 :: a3 :: .int (nI a) :: tl) st w := j_inc4 _ hd (sb_m1 h0) kk hn
theorem j_st5_s {a0 a1 a2 a3 a4 : Value} {b : Value} {x : Int32} {tl : List Value} (hd : decode cc pc = .ok (.istore 5, 2)) (kk : J X K cc nL k (pc + 2) (a0 :: a1 :: a2 :: a3 :: a4 :: .int x :: tl) st w) (hn : 5 < nL := by decide) : J X K cc nL k pc (a0 :: a1 :: a2 :: a3 :: a4 :: b :: tl) (.int x :: st) w := j_ist hd hn (by show 5 ≤ _; simp only [List.length_cons, List.length_nil]; omega) rfl kk
theorem j_st5_a {a0 a1 a2 a3 a4 : Value} {x : Int32} (hd : decode cc pc = .ok (.istore 5, 2)) (kk : J X K cc nL k (pc + 2) [a0, a1, a2, a3, a4, .int x] st w) (hn : 5 < nL := by decide) : J X K cc nL k pc [a0, a1, a2, a3, a4] (.int x :: st) w := j_ist hd hn (by show 5 ≤ _; simp only [List.length_cons, List.length_nil]; omega) rfl kk
theorem j_inc5 {a0 a1 a2 a3 a4 : Value} {x : Int32} {tl : List Value} {n : Int} (v : Int32) (hd : decode cc pc = .ok (.iinc 5 n, 3)) (hv : x + Int32.ofInt n = v) (kk : J X K cc nL k (pc + 3) (a0 :: a1 :: a2 :: a3 :: a4 :: .int v :: tl) st w) (hn : 5 < nL := by decide) : J X K cc nL k pc (a0 :: a1 :: a2 :: a3 :: a4 :: .int x :: tl) st w := j_iinc hd rfl hv hn rfl kk
theorem j_inc5N {a0 a1 a2 a3 a4 : Value} {a : Nat} {tl : List Value} (hd : decode cc pc = .ok (.iinc 5 1, 3)) (kk : J X K cc nL k (pc + 3) (a0 :: a1 :: a2 :: a3 :: a4 :: .int (nI (a + 1)) :: tl) st w) (hn : 5 < nL := by decide) : J X K cc nL k pc (a0 :: a1 :: a2 :: a3 :: a4 :: .int (nI a) :: tl) st w := j_inc5 _ hd (nI_1 a) kk hn
theorem j_dec5N {a0 a1 a2 a3 a4 : Value} {a : Nat} {tl : List Value} (hd : decode cc pc = .ok (.iinc 5 (-1), 3)) (h0 : 0 < a) (kk : J X K cc nL k (pc + 3) (a0 :: a1 :: a2 :: a3 :: a4 :: .int (nI (a - 1)) :: tl) st w) (hn : 5 < nL := by decide) : J X K cc nL k pc (a0 :: a1 :: a2 :: a3 :: a4 :: .int (nI a) :: tl) st w := j_inc5 _ hd (sb_m1 h0) kk hn
theorem j_st6_s {a0 a1 a2 a3 a4 a5 : Value} {b : Value} {x : Int32} {tl : List Value} (hd : decode cc pc = .ok (.istore 6, 2)) (kk : J X K cc nL k (pc + 2) (a0 :: a1 :: a2 :: a3 :: a4 :: a5 :: .int x :: tl) st w) (hn : 6 < nL := by decide) : J X K cc nL k pc (a0 :: a1 :: a2 :: a3 :: a4 :: a5 :: b :: tl) (.int x :: st) w := j_ist hd hn (by show 6 ≤ _; simp only [List.length_cons, List.length_nil]; omega) rfl kk
theorem j_st6_a {a0 a1 a2 a3 a4 a5 : Value} {x : Int32} (hd : decode cc pc = .ok (.istore 6, 2)) (kk : J X K cc nL k (pc + 2) [a0, a1, a2, a3, a4, a5, .int x] st w) (hn : 6 < nL := by decide) : J X K cc nL k pc [a0, a1, a2, a3, a4, a5] (.int x :: st) w := j_ist hd hn (by show 6 ≤ _; simp only [List.length_cons, List.length_nil]; omega) rfl kk
theorem j_inc6 {a0 a1 a2 a3 a4 a5 : Value} {x : Int32} {tl : List Value} {n : Int} (v : Int32) (hd : decode cc pc = .ok (.iinc 6 n, 3)) (hv : x + Int32.ofInt n = v) (kk : J X K cc nL k (pc + 3) (a0 :: a1 :: a2 :: a3 :: a4 :: a5 :: .int v :: tl) st w) (hn : 6 < nL := by decide) : J X K cc nL k pc (a0 :: a1 :: a2 :: a3 :: a4 :: a5 :: .int x :: tl) st w := j_iinc hd rfl hv hn rfl kk
theorem j_inc6N {a0 a1 a2 a3 a4 a5 : Value} {a : Nat} {tl : List Value} (hd : decode cc pc = .ok (.iinc 6 1, 3)) (kk : J X K cc nL k (pc + 3) (a0 :: a1 :: a2 :: a3 :: a4 :: a5 :: .int (nI (a + 1)) :: tl) st w) (hn : 6 < nL := by decide) : J X K cc nL k pc (a0 :: a1 :: a2 :: a3 :: a4 :: a5 :: .int (nI a) :: tl) st w := j_inc6 _ hd (nI_1 a) kk hn
theorem j_dec6N {a0 a1 a2 a3 a4 a5 : Value} {a : Nat} {tl : List Value} (hd : decode cc pc = .ok (.iinc 6 (-1), 3)) (h0 : 0 < a) (kk : J X K cc nL k (pc + 3) (a0 :: a1 :: a2 :: a3 :: a4 :: a5 :: .int (nI (a - 1)) :: tl) st w) (hn : 6 < nL := by decide) : J X K cc nL k pc (a0 :: a1 :: a2 :: a3 :: a4 :: a5 :: .int (nI a) :: tl) st w := j_inc6 _ hd (sb_m1 h0) kk hn
theorem j_st7_s {a0 a1 a2 a3 a4 a5 a6 : Value} {b : Value} {x : Int32} {tl : List Value} (hd : decode cc pc = .ok (.istore 7, 2)) (kk : J X K cc nL k (pc + 2) (a0 :: a1 :: a2 :: a3 :: a4 :: a5 :: a6 :: .int x :: tl) st w) (hn : 7 < nL := by decide) : J X K cc nL k pc (a0 :: a1 :: a2 :: a3 :: a4 :: a5 :: a6 :: b :: tl) (.int x :: st) w := j_ist hd hn (by show 7 ≤ _; simp only [List.length_cons, List.length_nil]; omega) rfl kk
theorem j_st7_a {a0 a1 a2 a3 a4 a5 a6 : Value} {x : Int32} (hd : decode cc pc = .ok (.istore 7, 2)) (kk : J X K cc nL k (pc + 2) [a0, a1, a2, a3, a4, a5, a6, .int x] st w) (hn : 7 < nL := by decide) : J X K cc nL k pc [a0, a1, a2, a3, a4, a5, a6] (.int x :: st) w := j_ist hd hn (by show 7 ≤ _; simp only [List.length_cons, List.length_nil]; omega) rfl kk
theorem j_inc7 {a0 a1 a2 a3 a4 a5 a6 : Value} {x : Int32} {tl : List Value} {n : Int} (v : Int32) (hd : decode cc pc = .ok (.iinc 7 n, 3)) (hv : x + Int32.ofInt n = v) (kk : J X K cc nL k (pc + 3) (a0 :: a1 :: a2 :: a3 :: a4 :: a5 :: a6 :: .int v :: tl) st w) (hn : 7 < nL := by decide) : J X K cc nL k pc (a0 :: a1 :: a2 :: a3 :: a4 :: a5 :: a6 :: .int x :: tl) st w := j_iinc hd rfl hv hn rfl kk
theorem j_inc7N {a0 a1 a2 a3 a4 a5 a6 : Value} {a : Nat} {tl : List Value} (hd : decode cc pc = .ok (.iinc 7 1, 3)) (kk : J X K cc nL k (pc + 3) (a0 :: a1 :: a2 :: a3 :: a4 :: a5 :: a6 :: .int (nI (a + 1)) :: tl) st w) (hn : 7 < nL := by decide) : J X K cc nL k pc (a0 :: a1 :: a2 :: a3 :: a4 :: a5 :: a6 :: .int (nI a) :: tl) st w := j_inc7 _ hd (nI_1 a) kk hn
theorem j_dec7N {a0 a1 a2 a3 a4 a5 a6 : Value} {a : Nat} {tl : List Value} (hd : decode cc pc = .ok (.iinc 7 (-1), 3)) (h0 : 0 < a) (kk : J X K cc nL k (pc + 3) (a0 :: a1 :: a2 :: a3 :: a4 :: a5 :: a6 :: .int (nI (a - 1)) :: tl) st w) (hn : 7 < nL := by decide) : J X K cc nL k pc (a0 :: a1 :: a2 :: a3 :: a4 :: a5 :: a6 :: .int (nI a) :: tl) st w := j_inc7 _ hd (sb_m1 h0) kk hn
theorem j_st8_s {a0 a1 a2 a3 a4 a5 a6 a7 : Value} {b : Value} {x : Int32} {tl : List Value} (hd : decode cc pc = .ok (.istore 8, 2)) (kk : J X K cc nL k (pc + 2) (a0 :: a1 :: a2 :: a3 :: a4 :: a5 :: a6 :: a7 :: .int x :: tl) st w) (hn : 8 < nL := by decide) : J X K cc nL k pc (a0 :: a1 :: a2 :: a3 :: a4 :: a5 :: a6 :: a7 :: b :: tl) (.int x :: st) w := j_ist hd hn (by show 8 ≤ _; simp only [List.length_cons, List.length_nil]; omega) rfl kk
theorem j_st8_a {a0 a1 a2 a3 a4 a5 a6 a7 : Value} {x : Int32} (hd : decode cc pc = .ok (.istore 8, 2)) (kk : J X K cc nL k (pc + 2) [a0, a1, a2, a3, a4, a5, a6, a7, .int x] st w) (hn : 8 < nL := by decide) : J X K cc nL k pc [a0, a1, a2, a3, a4, a5, a6, a7] (.int x :: st) w := j_ist hd hn (by show 8 ≤ _; simp only [List.length_cons, List.length_nil]; omega) rfl kk
theorem j_inc8 {a0 a1 a2 a3 a4 a5 a6 a7 : Value} {x : Int32} {tl : List Value} {n : Int} (v : Int32) (hd : decode cc pc = .ok (.iinc 8 n, 3)) (hv : x + Int32.ofInt n = v) (kk : J X K cc nL k (pc + 3) (a0 :: a1 :: a2 :: a3 :: a4 :: a5 :: a6 :: a7 :: .int v :: tl) st w) (hn : 8 < nL := by decide) : J X K cc nL k pc (a0 :: a1 :: a2 :: a3 :: a4 :: a5 :: a6 :: a7 :: .int x :: tl) st w := j_iinc hd rfl hv hn rfl kk
theorem j_inc8N {a0 a1 a2 a3 a4 a5 a6 a7 : Value} {a : Nat} {tl : List Value} (hd : decode cc pc = .ok (.iinc 8 1, 3)) (kk : J X K cc nL k (pc + 3) (a0 :: a1 :: a2 :: a3 :: a4 :: a5 :: a6 :: a7 :: .int (nI (a + 1)) :: tl) st w) (hn : 8 < nL := by decide) : J X K cc nL k pc (a0 :: a1 :: a2 :: a3 :: a4 :: a5 :: a6 :: a7 :: .int (nI a) :: tl) st w := j_inc8 _ hd (nI_1 a) kk hn
theorem j_dec8N {a0 a1 a2 a3 a4 a5 a6 a7 : Value} {a : Nat} {tl : List Value} (hd : decode cc pc = .ok (.iinc 8 (-1), 3)) (h0 : 0 < a) (kk : J X K cc nL k (pc + 3) (a0 :: a1 :: a2 :: a3 :: a4 :: a5 :: a6 :: a7 :: .int (nI (a - 1)) :: tl) st w) (hn : 8 < nL := by decide) : J X K cc nL k pc (a0 :: a1 :: a2 :: a3 :: a4 :: a5 :: a6 :: a7 :: .int (nI a) :: tl) st w := j_inc8 _ hd (sb_m1 h0) kk hn
theorem j_st9_s {a0 a1 a2 a3 a4 a5 a6 a7 a8 : Value} {b : Value} {x : Int32} {tl : List Value} (hd : decode cc pc = .ok (.istore 9, 2)) (kk : J X K cc nL k (pc + 2) (a0 :: a1 :: a2 :: a3 :: a4 :: a5 :: a6 :: a7 :: a8 :: .int x :: tl) st w) (hn : 9 < nL := by decide) : J X K cc nL k pc (a0 :: a1 :: a2 :: a3 :: a4 :: a5 :: a6 :: a7 :: a8 :: b :: tl) (.int x :: st) w := j_ist hd hn (by show 9 ≤ _; simp only [List.length_cons, List.length_nil]; omega) rfl kk
theorem j_st9_a {a0 a1 a2 a3 a4 a5 a6 a7 a8 : Value} {x : Int32} (hd : decode cc pc = .ok (.istore 9, 2)) (kk : J X K cc nL k (pc + 2) [a0, a1, a2, a3, a4, a5, a6, a7, a8, .int x] st w) (hn : 9 < nL := by decide) : J X K cc nL k pc [a0, a1, a2, a3, a4, a5, a6, a7, a8] (.int x :: st) w := j_ist hd hn (by show 9 ≤ _; simp only [List.length_cons, List.length_nil]; omega) rfl kk
theorem j_inc9 {a0 a1 a2 a3 a4 a5 a6 a7 a8 : Value} {x : Int32} {tl : List Value} {n : Int} (v : Int32) (hd : decode cc pc = .ok (.iinc 9 n, 3)) (hv : x + Int32.ofInt n = v) (kk : J X K cc nL k (pc + 3) (a0 :: a1 :: a2 :: a3 :: a4 :: a5 :: a6 :: a7 :: a8 :: .int v :: tl) st w) (hn : 9 < nL := by decide) : J X K cc nL k pc (a0 :: a1 :: a2 :: a3 :: a4 :: a5 :: a6 :: a7 :: a8 :: .int x :: tl) st w := j_iinc hd rfl hv hn rfl kk
theorem j_inc9N {a0 a1 a2 a3 a4 a5 a6 a7 a8 : Value} {a : Nat} {tl : List Value} (hd : decode cc pc = .ok (.iinc 9 1, 3)) (kk : J X K cc nL k (pc + 3) (a0 :: a1 :: a2 :: a3 :: a4 :: a5 :: a6 :: a7 :: a8 :: .int (nI (a + 1)) :: tl) st w) (hn : 9 < nL := by decide) : J X K cc nL k pc (a0 :: a1 :: a2 :: a3 :: a4 :: a5 :: a6 :: a7 :: a8 :: .int (nI a) :: tl) st w := j_inc9 _ hd (nI_1 a) kk hn
theorem j_dec9N {a0 a1 a2 a3 a4 a5 a6 a7 a8 : Value} {a : Nat} {tl : List Value} (hd : decode cc pc = .ok (.iinc 9 (-1), 3)) (h0 : 0 < a) (kk : J X K cc nL k (pc + 3) (a0 :: a1 :: a2 :: a3 :: a4 :: a5 :: a6 :: a7 :: a8 :: .int (nI (a - 1)) :: tl) st w) (hn : 9 < nL := by decide) : J X K cc nL k pc (a0 :: a1 :: a2 :: a3 :: a4 :: a5 :: a6 :: a7 :: a8 :: .int (nI a) :: tl) st w := j_inc9 _ hd (sb_m1 h0) kk hn
theorem j_st10_s {a0 a1 a2 a3 a4 a5 a6 a7 a8 a9 : Value} {b : Value} {x : Int32} {tl : List Value} (hd : decode cc pc = .ok (.istore 10, 2)) (kk : J X K cc nL k (pc + 2) (a0 :: a1 :: a2 :: a3 :: a4 :: a5 :: a6 :: a7 :: a8 :: a9 :: .int x :: tl) st w) (hn : 10 < nL := by decide) : J X K cc nL k pc (a0 :: a1 :: a2 :: a3 :: a4 :: a5 :: a6 :: a7 :: a8 :: a9 :: b :: tl) (.int x :: st) w := j_ist hd hn (by show 10 ≤ _; simp only [List.length_cons, List.length_nil]; omega) rfl kk
theorem j_st10_a {a0 a1 a2 a3 a4 a5 a6 a7 a8 a9 : Value} {x : Int32} (hd : decode cc pc = .ok (.istore 10, 2)) (kk : J X K cc nL k (pc + 2) [a0, a1, a2, a3, a4, a5, a6, a7, a8, a9, .int x] st w) (hn : 10 < nL := by decide) : J X K cc nL k pc [a0, a1, a2, a3, a4, a5, a6, a7, a8, a9] (.int x :: st) w := j_ist hd hn (by show 10 ≤ _; simp only [List.length_cons, List.length_nil]; omega) rfl kk
theorem j_inc10 {a0 a1 a2 a3 a4 a5 a6 a7 a8 a9 : Value} {x : Int32} {tl : List Value} {n : Int} (v : Int32) (hd : decode cc pc = .ok (.iinc 10 n, 3)) (hv : x + Int32.ofInt n = v) (kk : J X K cc nL k (pc + 3) (a0 :: a1 :: a2 :: a3 :: a4 :: a5 :: a6 :: a7 :: a8 :: a9 :: .int v :: tl) st w) (hn : 10 < nL := by decide) : J X K cc nL k pc (a0 :: a1 :: a2 :: a3 :: a4 :: a5 :: a6 :: a7 :: a8 :: a9 :: .int x :: tl) st w := j_iinc hd rfl hv hn rfl kk
theorem j_inc10N {a0 a1 a2 a3 a4 a5 a6 a7 a8 a9 : Value} {a : Nat} {tl : List Value} (hd : decode cc pc = .ok (.iinc 10 1, 3)) (kk : J X K cc nL k (pc + 3) (a0 :: a1 :: a2 :: a3 :: a4 :: a5 :: a6 :: a7 :: a8 :: a9 :: .int (nI (a + 1)) :: tl) st w) (hn : 10 < nL := by decide) : J X K cc nL k pc (a0 :: a1 :: a2 :: a3 :: a4 :: a5 :: a6 :: a7 :: a8 :: a9 :: .int (nI a) :: tl) st w := j_inc10 _ hd (nI_1 a) kk hn
theorem j_dec10N {a0 a1 a2 a3 a4 a5 a6 a7 a8 a9 : Value} {a : Nat} {tl : List Value} (hd : decode cc pc = .ok (.iinc 10 (-1), 3)) (h0 : 0 < a) (kk : J X K cc nL k (pc + 3) (a0 :: a1 :: a2 :: a3 :: a4 :: a5 :: a6 :: a7 :: a8 :: a9 :: .int (nI (a - 1)) :: tl) st w) (hn : 10 < nL := by decide) : J X K cc nL k pc (a0 :: a1 :: a2 :: a3 :: a4 :: a5 :: a6 :: a7 :: a8 :: a9 :: .int (nI a) :: tl) st w := j_inc10 _ hd (sb_m1 h0) kk hn
def RetI (X : Gm) (K : Kc S) (ret : Option FieldType) (post : Int32 → S → Prop) : Prop := (gt X).sig.returnType = ret ∧ gQ X = MQ (gb X) (va_Qi post (fun w' t => va_P (gD X) vwCl (K.2.2 w') t.heap ∧ va_K (gD X) vwCl K.2.1 t ∧ va_D (gA X) (K.2.2 w')) (gA X)) (ga X) (gs X) (gce X) (gsl X) (gA X)
def RetV (X : Gm) (K : Kc S) (post : S → Prop) : Prop := (gt X).sig.returnType = none ∧ gQ X = MQ (gb X) (va_Qv post (fun w' t => va_P (gD X) vwCl (K.2.2 w') t.heap ∧ va_K (gD X) vwCl K.2.1 t ∧ va_D (gA X) (K.2.2 w')) (gA X)) (ga X) (gs X) (gce X) (gsl X) (gA X)
theorem j_iret {post : Int32 → S → Prop} {r : Int32} (R : RetI X K (some .int) post) (hd : decode cc pc = .ok (.ireturn, 1)) (hp : post r w) : J X K cc nL k pc lv [.int r] w := by
  intro C H locs ls hP hD hS hl
  rw [R.2]
  exact W.iret C.1.1 C.1.2.1 R.1 (fun t ht hW => ⟨⟨r, w, rfl, hp, by rw [ht]; exact hP, va_K.moved hW.alike C.2.1, hD⟩, hS.F ht⟩) hS.2.2 hd C.2.2.2.2.2
theorem j_zret {post : Int32 → S → Prop} {r : Int32} (R : RetI X K (some .boolean) post) (hd : decode cc pc = .ok (.ireturn, 1)) (b : Bool) (hr : r = bI b) (hp : post (bI b) w) : J X K cc nL k pc lv [.int r] w := by
  intro C H locs ls hP hD hS hl
  subst hr
  rw [R.2]
  exact W.zret C.1.1 C.1.2.1 R.1 (by cases b <;> rfl) (fun t ht hW => ⟨⟨bI b, w, rfl, hp, by rw [ht]; exact hP, va_K.moved hW.alike C.2.1, hD⟩, hS.F ht⟩) hS.2.2 hd C.2.2.2.2.2
theorem j_vret {post : S → Prop} (R : RetV X K post) (hd : decode cc pc = .ok (.return_, 1)) (hp : post w) : J X K cc nL k pc lv [] w := by
  intro C H locs ls hP hD hS hl
  rw [R.2]
  exact W.vret C.1.1 C.1.2.1 R.1 (fun t ht hW => ⟨⟨w, rfl, hp, by rw [ht]; exact hP, va_K.moved hW.alike C.2.1, hD⟩, hS.F ht⟩) hS.2.2 hd C.2.2.2.2.2
abbrev rmK (k : Nat) : Room := { frames := k, cells := 0, slots := 0, locals := 32 * k }
abbrev PcK (D : va_G) (K : Kc S) (As : List Value) (w : S) (sz : Nat) : Array Value → State → Prop := va_Pc As (fun U => U.heap.size = sz ∧ va_P D vwCl (K.2.2 w) U.heap ∧ va_K D vwCl K.2.1 U ∧ va_D (fun _ => True) (K.2.2 w))
def Mi (l : Launch) (D : va_G) (K : Kc S) (y : MethodName) (bc : ByteArray) (nl kc : Nat) (ret : Option FieldType) (As : List Value) (w : S) (post : Int32 → S → Prop) : Prop :=
  ∀ sz : Nat, Met l y (ws_ y bc nl ret) (rmK kc) (PcK D K As w sz) (va_Qi post (fun w' t => va_P D vwCl (K.2.2 w') t.heap ∧ va_K D vwCl K.2.1 t ∧ va_D (va_A (K.2.2 w) sz) (K.2.2 w')) (va_A (K.2.2 w) sz)) 0 0 (va_A (K.2.2 w) sz)
def Mv (l : Launch) (D : va_G) (K : Kc S) (y : MethodName) (bc : ByteArray) (nl kc : Nat) (As : List Value) (w : S) (post : S → Prop) : Prop :=
  ∀ sz : Nat, Met l y (ws_ y bc nl none) (rmK kc) (PcK D K As w sz) (va_Qv post (fun w' t => va_P D vwCl (K.2.2 w') t.heap ∧ va_K D vwCl K.2.1 t ∧ va_D (va_A (K.2.2 w) sz) (K.2.2 w')) (va_A (K.2.2 w) sz)) 0 0 (va_A (K.2.2 w) sz)
theorem Mi.of {l : Launch} {D : va_G} {y : MethodName} {bc : ByteArray} {nl kc : Nat} {ret : Option FieldType} {As : List Value} {post : Int32 → S → Prop} (hy : plainName y.cls = true) (hK1 : y.cls = K.1) (hc : ∀ v ∈ As, v.category = 1) (hlen : (lg_sl As).length ≤ nl) (body : ∀ X : Gm, RetI X K ret post → J X K bc nl kc 0 As [] w) : Mi l D K y bc nl kc ret As w post := by
  intro sz
  refine Met.ofW (cc := bc) (maxL := nl) (ret := ret) hy rfl ?_
  intro p e s m args below meth c s₁ B hml hv
  obtain ⟨rfl, hsz, hP, hK, hD0⟩ := hv
  have hts := atoms_spec (ws := ws_ y bc nl ret) B.pre
  have hts : ∀ w ∈ lw_all, w.before _ s = true := fun w h => hts w (List.mem_cons_of_mem _ h)
  have hown : s.vm.findClass y.cls = some m.cls := findClass_of_methodNamed B.named
  have hl := LH_entry hc (lv_entry As (n := nl) hlen)
  rw [lg_entry_eq]
  have J0 := body (p, l, e, rmK kc, s, m, As.toArray, below, meth, c, va_A (K.2.2 w) sz, D, 0, 0, MQ below (va_Qi post (fun w' t => va_P D vwCl (K.2.2 w') t.heap ∧ va_K D vwCl K.2.1 t ∧ va_D (va_A (K.2.2 w) sz) (K.2.2 w')) (va_A (K.2.2 w) sz)) As.toArray s 0 0 (va_A (K.2.2 w) sz)) ⟨B.returns, rfl⟩
  exact J0 ⟨⟨B.exec, B.bytes, hml, hK1 ▸ hown, hts⟩, hK, fun q h => Or.inr (hsz ▸ h), ⟨Nat.le_refl _, Nat.le_refl _⟩, ⟨Nat.le_refl _, Nat.le_refl _⟩, B.notSynchronized⟩ s.heap [] _ hP hD0.self va_S.rf hl
theorem Mv.of {l : Launch} {D : va_G} {y : MethodName} {bc : ByteArray} {nl kc : Nat} {As : List Value} {post : S → Prop} (hy : plainName y.cls = true) (hK1 : y.cls = K.1) (hc : ∀ v ∈ As, v.category = 1) (hlen : (lg_sl As).length ≤ nl) (body : ∀ X : Gm, RetV X K post → J X K bc nl kc 0 As [] w) : Mv l D K y bc nl kc As w post := by
  intro sz
  refine Met.ofW (cc := bc) (maxL := nl) (ret := none) hy rfl ?_
  intro p e s m args below meth c s₁ B hml hv
  obtain ⟨rfl, hsz, hP, hK, hD0⟩ := hv
  have hts := atoms_spec (ws := ws_ y bc nl none) B.pre
  have hts : ∀ w ∈ lw_all, w.before _ s = true := fun w h => hts w (List.mem_cons_of_mem _ h)
  have hown : s.vm.findClass y.cls = some m.cls := findClass_of_methodNamed B.named
  have hl := LH_entry hc (lv_entry As (n := nl) hlen)
  rw [lg_entry_eq]
  have J0 := body (p, l, e, rmK kc, s, m, As.toArray, below, meth, c, va_A (K.2.2 w) sz, D, 0, 0, MQ below (va_Qv post (fun w' t => va_P D vwCl (K.2.2 w') t.heap ∧ va_K D vwCl K.2.1 t ∧ va_D (va_A (K.2.2 w) sz) (K.2.2 w')) (va_A (K.2.2 w) sz)) As.toArray s 0 0 (va_A (K.2.2 w) sz)) ⟨B.returns, rfl⟩
  exact J0 ⟨⟨B.exec, B.bytes, hml, hK1 ▸ hown, hts⟩, hK, fun q h => Or.inr (hsz ▸ h), ⟨Nat.le_refl _, Nat.le_refl _⟩, ⟨Nat.le_refl _, Nat.le_refl _⟩, B.notSynchronized⟩ s.heap [] _ hP hD0.self va_S.rf hl
theorem PcK_blind {D : va_G} {As : List Value} {sz : Nat} : FrameBlind (PcK D K As w sz) := fun a U g mk q => by
  obtain ⟨q0, q1, qP, qK, qD⟩ := q
  exact ⟨q0, q1, qP, va_K.moved (u := U) (U := U.calling g mk a) (Vm.Alike.refl U.vm) qK, qD⟩
theorem all_free {A : Nat → Prop} {ws : va_W} {H0 H : Heap} {locs : List Loc} (hD : va_D A ws) (hS : va_S A H0 H locs) (hA : ∀ q, H0.size ≤ q → A q) : ∀ q, va_A ws H.size q → A q := by
  intro q h
  rcases h with ⟨i, e, h⟩ | h
  · exact hD.2 i (q, e) h
  · exact hA q (Nat.le_trans hS.1 h)
theorem j_callVi {y : MethodName} {bc : ByteArray} {nl kc idx n ci a : Nat} {ret : Option FieldType} {As : List Value} {post : Int32 → S → Prop} {C : String} {T : u_T} {N : Nat} (hG : GoodIn lw_all (wsV K.1 idx C y (ws_ y bc nl ret)))
    (hy : y.cls = C ∧ y.cls ≠ "java/lang/invoke/MethodHandle" ∧ y.cls ≠ "java/lang/invoke/VarHandle" ∧ (parseMethodDescriptor y.desc).map (fun d => d.parameters.length) = some n) (hci : vwCl[ci]? = some (C, T, N)) (hrc : ∃ fs, (K.2.2 w)[0]? = some (a, .inr (ci, fs))) (hn : As.length = n) (hk : kc + 1 ≤ k) (hnl : nl ≤ 13) (hst : (st.map fun v => v.category).sum ≤ 8)
    (hd : decode cc pc = .ok (.invokevirtual idx, 3)) (hM : Mi (gl X) (gD X) K y bc nl kc ret (.ref a :: As) w post) (kk : ∀ r w', post r w' → J X K cc nL k (pc + 3) lv (.int r :: st) w') : J X K cc nL k pc lv (As.reverse ++ .ref a :: st) w := by
  intro C0 H locs ls hP hD hS hl
  obtain ⟨fs, hrc⟩ := hrc
  have hF := all_free hD hS C0.2.2.1
  have hR := C0.2.2.2.1
  refine va_calli (va_runV (As := As) (rest := st) C0.1 (hM H.size) (cwV n C0.1.2.2.2.2 hG rfl rfl rfl hy ⟨Nat.le_trans hk hR.1, by show 8 + (nl + 11) + 32 * kc ≤ _; have := hR.2; omega⟩) ⟨PcK_blind, va_recv C0.2.1 hP hci hrc, fun U hU hW => ⟨rfl, by rw [hU], by rw [hU]; exact hP, va_K.moved hW.alike C0.2.1, hD.weaken (fun _ _ _ _ => trivial)⟩⟩ rfl hn hl.1 rfl (lv_room hst) hd C0.2.2.2.2.1) hS (fun q _ h => hF q h) hF (fun r u t H1 locs1 ht hvm hp hB hz1 hk1 hS1 => ?_)
  rw [ht] at hB
  exact kk r u hp C0 H1 locs1 ls hB.1 (hB.2.2.weaken (fun _ _ _ h => hF _ h)) hS1 hl
theorem j_callVv {y : MethodName} {bc : ByteArray} {nl kc idx n ci a : Nat} {As : List Value} {post : S → Prop} {C : String} {T : u_T} {N : Nat} (hG : GoodIn lw_all (wsV K.1 idx C y (ws_ y bc nl none)))
    (hy : y.cls = C ∧ y.cls ≠ "java/lang/invoke/MethodHandle" ∧ y.cls ≠ "java/lang/invoke/VarHandle" ∧ (parseMethodDescriptor y.desc).map (fun d => d.parameters.length) = some n) (hci : vwCl[ci]? = some (C, T, N)) (hrc : ∃ fs, (K.2.2 w)[0]? = some (a, .inr (ci, fs))) (hn : As.length = n) (hk : kc + 1 ≤ k) (hnl : nl ≤ 13) (hst : (st.map fun v => v.category).sum ≤ 8)
    (hd : decode cc pc = .ok (.invokevirtual idx, 3)) (hM : Mv (gl X) (gD X) K y bc nl kc (.ref a :: As) w post) (kk : ∀ w', post w' → J X K cc nL k (pc + 3) lv st w') : J X K cc nL k pc lv (As.reverse ++ .ref a :: st) w := by
  intro C0 H locs ls hP hD hS hl
  obtain ⟨fs, hrc⟩ := hrc
  have hF := all_free hD hS C0.2.2.1
  have hR := C0.2.2.2.1
  refine va_callv (va_runV (As := As) (rest := st) C0.1 (hM H.size) (cwV n C0.1.2.2.2.2 hG rfl rfl rfl hy ⟨Nat.le_trans hk hR.1, by show 8 + (nl + 11) + 32 * kc ≤ _; have := hR.2; omega⟩) ⟨PcK_blind, va_recv C0.2.1 hP hci hrc, fun U hU hW => ⟨rfl, by rw [hU], by rw [hU]; exact hP, va_K.moved hW.alike C0.2.1, hD.weaken (fun _ _ _ _ => trivial)⟩⟩ rfl hn hl.1 rfl (lv_room hst) hd C0.2.2.2.2.1) hS (fun q _ h => hF q h) hF (fun u t H1 locs1 ht hvm hp hB hz1 hk1 hS1 => ?_)
  rw [ht] at hB
  exact kk u hp C0 H1 locs1 ls hB.1 (hB.2.2.weaken (fun _ _ _ h => hF _ h)) hS1 hl
theorem j_callSi {y : MethodName} {bc : ByteArray} {nl kc idx n : Nat} {ret : Option FieldType} {As : List Value} {post : Int32 → S → Prop} (hG : GoodIn lw_all (va_wsS K.1 idx y (ws_ y bc nl ret)))
    (hy : y.cls ≠ "java/lang/invoke/MethodHandle" ∧ y.cls ≠ "java/lang/invoke/VarHandle" ∧ (parseMethodDescriptor y.desc).map (fun d => d.parameters.length) = some n) (hn : As.length = n) (hk : kc + 1 ≤ k) (hnl : nl ≤ 13) (hst : (st.map fun v => v.category).sum ≤ 8)
    (hd : decode cc pc = .ok (.invokestatic idx, 3)) (hM : Mi (gl X) (gD X) K y bc nl kc ret As w post) (kk : ∀ r w', post r w' → J X K cc nL k (pc + 3) lv (.int r :: st) w') : J X K cc nL k pc lv (As.reverse ++ st) w := by
  intro C0 H locs ls hP hD hS hl
  have hF := all_free hD hS C0.2.2.1
  have hR := C0.2.2.2.1
  refine va_calli (va_runS (As := As) (rest := st) C0.1 (hM H.size) (va_cwS n C0.1.2.2.2.2 hG rfl rfl rfl hy ⟨Nat.le_trans hk hR.1, by show 8 + (nl + 11) + 32 * kc ≤ _; have := hR.2; omega⟩) ⟨PcK_blind, fun U hU hW => ⟨rfl, by rw [hU], by rw [hU]; exact hP, va_K.moved hW.alike C0.2.1, hD.weaken (fun _ _ _ _ => trivial)⟩⟩ rfl hn hl.1 rfl (lv_room hst) hd C0.2.2.2.2.1) hS (fun q _ h => hF q h) hF (fun r u t H1 locs1 ht hvm hp hB hz1 hk1 hS1 => ?_)
  rw [ht] at hB
  exact kk r u hp C0 H1 locs1 ls hB.1 (hB.2.2.weaken (fun _ _ _ h => hF _ h)) hS1 hl
end JL
end
section
/-! the pictures of the two classes and the rows of their fields, arrays and calls -/
set_option maxRecDepth 100000
def pic1 (h : Nat → Nat) (d : Nat → ClassId) (w : Wd) : va_W := [(h 0, .inr (0, [.ref (h 1), .ref (h 2), .ref (h 3), .ref (h 4), .ref (h 5), .ref (h 6), .ref (h 7), .ref (h 8), .ref (h 9), .ref (h 10), .int (w 10 0), .int (w 10 1), .int (w 10 2), .int (w 10 3), .int (w 10 4), .int (w 10 5), .int (w 10 6)])), (h 1, .inl (d 0, 10, .inl (w 0))), (h 2, .inl (d 1, 25, .inl (w 1))), (h 3, .inl (d 2, 31, .inl (w 2))), (h 4, .inl (d 3, 32, .inl (w 3))), (h 5, .inl (d 4, 31, .inl (w 4))), (h 6, .inl (d 5, 6, .inl (w 5))), (h 7, .inl (d 6, 6, .inl (w 6))), (h 8, .inl (d 7, 5, .inl (w 7))), (h 9, .inl (d 8, 10, .inl (w 8))), (h 10, .inl (d 9, 10, .inl (w 9)))]
def tys1 (d : Nat → ClassId) : List (ClassId × FieldType) := [(d 0, .int), (d 1, .int), (d 2, .int), (d 3, .int), (d 4, .int), (d 5, .int), (d 6, .int), (d 7, .int), (d 8, .int), (d 9, .int)]
def K1 (h : Nat → Nat) (d : Nat → ClassId) : Kc Wd := (RX1, tys1 d, pic1 h d)
def pic2 (h : Nat → Nat) (d : Nat → ClassId) (w : Wd) : va_W := [(h 0, .inr (1, [.int (w 10 0), .ref (h 1), .int (w 10 1), .ref (h 2), .ref (h 3), .int (w 10 2)])), (h 1, .inl (d 0, 10, .inl (w 0))), (h 2, .inl (d 1, 64, .inl (w 1))), (h 3, .inl (d 2, 5, .inl (w 2)))]
def tys2 (d : Nat → ClassId) : List (ClassId × FieldType) := [(d 0, .int), (d 1, .boolean), (d 2, .int)]
def K2 (h : Nat → Nat) (d : Nat → ClassId) : Kc Wd := (RX2, tys2 d, pic2 h d)
section R1
variable {X : Gm} {h : Nat → Nat} {d : Nat → ClassId} {cc : ByteArray} {nL k pc : Nat} {lv st : List Value} {w : Wd}
theorem g1_entries (hd : decode cc pc = .ok (.getfield 7, 3)) (kk : J X (K1 h d) cc nL k (pc + 3) lv (.ref (h 1) :: st) w) : J X (K1 h d) cc nL k pc lv (.ref (h 0) :: st) w := fun C H locs ls hP hD hS hl => va_get (v := .ref (h 1)) (D := gD X) (ci := 0) (C := RX1) (T := TX1) (N := 17) C.1.1 C.1.2.1 C.1.2.2.2.2 in_X1 C.1.2.2.2.1 C.2.1 hP 0 rfl rfl 0 (by decide) (C.1.2.2.2.2 _ q47) (fun _ h9 => h9) rfl hd (kk C H locs ls hP hD hS hl)
theorem g1_level (hd : decode cc pc = .ok (.getfield 13, 3)) (kk : J X (K1 h d) cc nL k (pc + 3) lv (.ref (h 2) :: st) w) : J X (K1 h d) cc nL k pc lv (.ref (h 0) :: st) w := fun C H locs ls hP hD hS hl => va_get (v := .ref (h 2)) (D := gD X) (ci := 0) (C := RX1) (T := TX1) (N := 17) C.1.1 C.1.2.1 C.1.2.2.2.2 in_X1 C.1.2.2.2.1 C.2.1 hP 0 rfl rfl 1 (by decide) (C.1.2.2.2.2 _ q48) (fun _ h9 => h9) rfl hd (kk C H locs ls hP hD hS hl)
theorem g1_sets (hd : decode cc pc = .ok (.getfield 16, 3)) (kk : J X (K1 h d) cc nL k (pc + 3) lv (.ref (h 3) :: st) w) : J X (K1 h d) cc nL k pc lv (.ref (h 0) :: st) w := fun C H locs ls hP hD hS hl => va_get (v := .ref (h 3)) (D := gD X) (ci := 0) (C := RX1) (T := TX1) (N := 17) C.1.1 C.1.2.1 C.1.2.2.2.2 in_X1 C.1.2.2.2.1 C.2.1 hP 0 rfl rfl 2 (by decide) (C.1.2.2.2.2 _ q49) (fun _ h9 => h9) rfl hd (kk C H locs ls hP hD hS hl)
theorem g1_later (hd : decode cc pc = .ok (.getfield 19, 3)) (kk : J X (K1 h d) cc nL k (pc + 3) lv (.ref (h 4) :: st) w) : J X (K1 h d) cc nL k pc lv (.ref (h 0) :: st) w := fun C H locs ls hP hD hS hl => va_get (v := .ref (h 4)) (D := gD X) (ci := 0) (C := RX1) (T := TX1) (N := 17) C.1.1 C.1.2.1 C.1.2.2.2.2 in_X1 C.1.2.2.2.1 C.2.1 hP 0 rfl rfl 3 (by decide) (C.1.2.2.2.2 _ q50) (fun _ h9 => h9) rfl hd (kk C H locs ls hP hD hS hl)
theorem g1_largest (hd : decode cc pc = .ok (.getfield 22, 3)) (kk : J X (K1 h d) cc nL k (pc + 3) lv (.ref (h 5) :: st) w) : J X (K1 h d) cc nL k pc lv (.ref (h 0) :: st) w := fun C H locs ls hP hD hS hl => va_get (v := .ref (h 5)) (D := gD X) (ci := 0) (C := RX1) (T := TX1) (N := 17) C.1.1 C.1.2.1 C.1.2.2.2.2 in_X1 C.1.2.2.2.1 C.2.1 hP 0 rfl rfl 4 (by decide) (C.1.2.2.2.2 _ q51) (fun _ h9 => h9) rfl hd (kk C H locs ls hP hD hS hl)
theorem g1_pick (hd : decode cc pc = .ok (.getfield 25, 3)) (kk : J X (K1 h d) cc nL k (pc + 3) lv (.ref (h 6) :: st) w) : J X (K1 h d) cc nL k pc lv (.ref (h 0) :: st) w := fun C H locs ls hP hD hS hl => va_get (v := .ref (h 6)) (D := gD X) (ci := 0) (C := RX1) (T := TX1) (N := 17) C.1.1 C.1.2.1 C.1.2.2.2.2 in_X1 C.1.2.2.2.1 C.2.1 hP 0 rfl rfl 5 (by decide) (C.1.2.2.2.2 _ q52) (fun _ h9 => h9) rfl hd (kk C H locs ls hP hD hS hl)
theorem g1_union (hd : decode cc pc = .ok (.getfield 28, 3)) (kk : J X (K1 h d) cc nL k (pc + 3) lv (.ref (h 7) :: st) w) : J X (K1 h d) cc nL k pc lv (.ref (h 0) :: st) w := fun C H locs ls hP hD hS hl => va_get (v := .ref (h 7)) (D := gD X) (ci := 0) (C := RX1) (T := TX1) (N := 17) C.1.1 C.1.2.1 C.1.2.2.2.2 in_X1 C.1.2.2.2.1 C.2.1 hP 0 rfl rfl 6 (by decide) (C.1.2.2.2.2 _ q53) (fun _ h9 => h9) rfl hd (kk C H locs ls hP hD hS hl)
theorem g1_cover (hd : decode cc pc = .ok (.getfield 31, 3)) (kk : J X (K1 h d) cc nL k (pc + 3) lv (.ref (h 8) :: st) w) : J X (K1 h d) cc nL k pc lv (.ref (h 0) :: st) w := fun C H locs ls hP hD hS hl => va_get (v := .ref (h 8)) (D := gD X) (ci := 0) (C := RX1) (T := TX1) (N := 17) C.1.1 C.1.2.1 C.1.2.2.2.2 in_X1 C.1.2.2.2.1 C.2.1 hP 0 rfl rfl 7 (by decide) (C.1.2.2.2.2 _ q54) (fun _ h9 => h9) rfl hd (kk C H locs ls hP hD hS hl)
theorem g1_nextClass (hd : decode cc pc = .ok (.getfield 34, 3)) (kk : J X (K1 h d) cc nL k (pc + 3) lv (.ref (h 9) :: st) w) : J X (K1 h d) cc nL k pc lv (.ref (h 0) :: st) w := fun C H locs ls hP hD hS hl => va_get (v := .ref (h 9)) (D := gD X) (ci := 0) (C := RX1) (T := TX1) (N := 17) C.1.1 C.1.2.1 C.1.2.2.2.2 in_X1 C.1.2.2.2.1 C.2.1 hP 0 rfl rfl 8 (by decide) (C.1.2.2.2.2 _ q55) (fun _ h9 => h9) rfl hd (kk C H locs ls hP hD hS hl)
theorem g1_classOut (hd : decode cc pc = .ok (.getfield 37, 3)) (kk : J X (K1 h d) cc nL k (pc + 3) lv (.ref (h 10) :: st) w) : J X (K1 h d) cc nL k pc lv (.ref (h 0) :: st) w := fun C H locs ls hP hD hS hl => va_get (v := .ref (h 10)) (D := gD X) (ci := 0) (C := RX1) (T := TX1) (N := 17) C.1.1 C.1.2.1 C.1.2.2.2.2 in_X1 C.1.2.2.2.1 C.2.1 hP 0 rfl rfl 9 (by decide) (C.1.2.2.2.2 _ q56) (fun _ h9 => h9) rfl hd (kk C H locs ls hP hD hS hl)
theorem g1_n {v : Int32} (hd : decode cc pc = .ok (.getfield 40, 3)) (hv : w 10 0 = v) (kk : J X (K1 h d) cc nL k (pc + 3) lv (.int v :: st) w) : J X (K1 h d) cc nL k pc lv (.ref (h 0) :: st) w := fun C H locs ls hP hD hS hl => va_get (v := .int (w 10 0)) (D := gD X) (ci := 0) (C := RX1) (T := TX1) (N := 17) C.1.1 C.1.2.1 C.1.2.2.2.2 in_X1 C.1.2.2.2.1 C.2.1 hP 0 rfl rfl 10 (by decide) (C.1.2.2.2.2 _ q57) (fun _ h9 => h9) rfl hd (by rw [hv]; exact kk C H locs ls hP hD hS hl)
theorem p1_n {x : Int32} (hd : decode cc pc = .ok (.putfield 40, 3)) (kk : J X (K1 h d) cc nL k (pc + 3) lv st (wset w 10 0 (x))) : J X (K1 h d) cc nL k pc lv (.int (x) :: .ref (h 0) :: st) w := fun C H locs ls hP hD hS hl => va_put (v := .int (x)) (ty := .int) (D := gD X) (ci := 0) (C := RX1) (T := TX1) (N := 17) C.1.1 C.1.2.1 C.1.2.2.2.2 in_X1 tyX1 tyX1_ok nmX1 C.1.2.2.2.1 C.2.1 hP hD hS 0 rfl rfl 10 (by decide) (C.1.2.2.2.2 _ q57) (fun _ h9 => h9) rfl (by decide +kernel) rfl rfl (Nat.le_of_ble_eq_true rfl) hd (fun H1 locs1 hP1 hD1 hS1 => kk C H1 locs1 ls hP1 hD1 hS1 hl)
theorem g1_setCount {v : Int32} (hd : decode cc pc = .ok (.getfield 112, 3)) (hv : w 10 1 = v) (kk : J X (K1 h d) cc nL k (pc + 3) lv (.int v :: st) w) : J X (K1 h d) cc nL k pc lv (.ref (h 0) :: st) w := fun C H locs ls hP hD hS hl => va_get (v := .int (w 10 1)) (D := gD X) (ci := 0) (C := RX1) (T := TX1) (N := 17) C.1.1 C.1.2.1 C.1.2.2.2.2 in_X1 C.1.2.2.2.1 C.2.1 hP 0 rfl rfl 11 (by decide) (C.1.2.2.2.2 _ q58) (fun _ h9 => h9) rfl hd (by rw [hv]; exact kk C H locs ls hP hD hS hl)
theorem p1_setCount {x : Int32} (hd : decode cc pc = .ok (.putfield 112, 3)) (kk : J X (K1 h d) cc nL k (pc + 3) lv st (wset w 10 1 (x))) : J X (K1 h d) cc nL k pc lv (.int (x) :: .ref (h 0) :: st) w := fun C H locs ls hP hD hS hl => va_put (v := .int (x)) (ty := .int) (D := gD X) (ci := 0) (C := RX1) (T := TX1) (N := 17) C.1.1 C.1.2.1 C.1.2.2.2.2 in_X1 tyX1 tyX1_ok nmX1 C.1.2.2.2.1 C.2.1 hP hD hS 0 rfl rfl 11 (by decide) (C.1.2.2.2.2 _ q58) (fun _ h9 => h9) rfl (by decide +kernel) rfl rfl (Nat.le_of_ble_eq_true rfl) hd (fun H1 locs1 hP1 hD1 hS1 => kk C H1 locs1 ls hP1 hD1 hS1 hl)
theorem g1_largestCount {v : Int32} (hd : decode cc pc = .ok (.getfield 75, 3)) (hv : w 10 2 = v) (kk : J X (K1 h d) cc nL k (pc + 3) lv (.int v :: st) w) : J X (K1 h d) cc nL k pc lv (.ref (h 0) :: st) w := fun C H locs ls hP hD hS hl => va_get (v := .int (w 10 2)) (D := gD X) (ci := 0) (C := RX1) (T := TX1) (N := 17) C.1.1 C.1.2.1 C.1.2.2.2.2 in_X1 C.1.2.2.2.1 C.2.1 hP 0 rfl rfl 12 (by decide) (C.1.2.2.2.2 _ q59) (fun _ h9 => h9) rfl hd (by rw [hv]; exact kk C H locs ls hP hD hS hl)
theorem p1_largestCount {x : Int32} (hd : decode cc pc = .ok (.putfield 75, 3)) (kk : J X (K1 h d) cc nL k (pc + 3) lv st (wset w 10 2 (x))) : J X (K1 h d) cc nL k pc lv (.int (x) :: .ref (h 0) :: st) w := fun C H locs ls hP hD hS hl => va_put (v := .int (x)) (ty := .int) (D := gD X) (ci := 0) (C := RX1) (T := TX1) (N := 17) C.1.1 C.1.2.1 C.1.2.2.2.2 in_X1 tyX1 tyX1_ok nmX1 C.1.2.2.2.1 C.2.1 hP hD hS 0 rfl rfl 12 (by decide) (C.1.2.2.2.2 _ q59) (fun _ h9 => h9) rfl (by decide +kernel) rfl rfl (Nat.le_of_ble_eq_true rfl) hd (fun H1 locs1 hP1 hD1 hS1 => kk C H1 locs1 ls hP1 hD1 hS1 hl)
theorem g1_coverCount {v : Int32} (hd : decode cc pc = .ok (.getfield 81, 3)) (hv : w 10 3 = v) (kk : J X (K1 h d) cc nL k (pc + 3) lv (.int v :: st) w) : J X (K1 h d) cc nL k pc lv (.ref (h 0) :: st) w := fun C H locs ls hP hD hS hl => va_get (v := .int (w 10 3)) (D := gD X) (ci := 0) (C := RX1) (T := TX1) (N := 17) C.1.1 C.1.2.1 C.1.2.2.2.2 in_X1 C.1.2.2.2.1 C.2.1 hP 0 rfl rfl 13 (by decide) (C.1.2.2.2.2 _ q60) (fun _ h9 => h9) rfl hd (by rw [hv]; exact kk C H locs ls hP hD hS hl)
theorem p1_coverCount {x : Int32} (hd : decode cc pc = .ok (.putfield 81, 3)) (kk : J X (K1 h d) cc nL k (pc + 3) lv st (wset w 10 3 (x))) : J X (K1 h d) cc nL k pc lv (.int (x) :: .ref (h 0) :: st) w := fun C H locs ls hP hD hS hl => va_put (v := .int (x)) (ty := .int) (D := gD X) (ci := 0) (C := RX1) (T := TX1) (N := 17) C.1.1 C.1.2.1 C.1.2.2.2.2 in_X1 tyX1 tyX1_ok nmX1 C.1.2.2.2.1 C.2.1 hP hD hS 0 rfl rfl 13 (by decide) (C.1.2.2.2.2 _ q60) (fun _ h9 => h9) rfl (by decide +kernel) rfl rfl (Nat.le_of_ble_eq_true rfl) hd (fun H1 locs1 hP1 hD1 hS1 => kk C H1 locs1 ls hP1 hD1 hS1 hl)
theorem g1_current {v : Int32} (hd : decode cc pc = .ok (.getfield 51, 3)) (hv : w 10 4 = v) (kk : J X (K1 h d) cc nL k (pc + 3) lv (.int v :: st) w) : J X (K1 h d) cc nL k pc lv (.ref (h 0) :: st) w := fun C H locs ls hP hD hS hl => va_get (v := .int (w 10 4)) (D := gD X) (ci := 0) (C := RX1) (T := TX1) (N := 17) C.1.1 C.1.2.1 C.1.2.2.2.2 in_X1 C.1.2.2.2.1 C.2.1 hP 0 rfl rfl 14 (by decide) (C.1.2.2.2.2 _ q61) (fun _ h9 => h9) rfl hd (by rw [hv]; exact kk C H locs ls hP hD hS hl)
theorem p1_current {b : Bool} (hd : decode cc pc = .ok (.putfield 51, 3)) (kk : J X (K1 h d) cc nL k (pc + 3) lv st (wset w 10 4 (bI b))) : J X (K1 h d) cc nL k pc lv (.int (bI b) :: .ref (h 0) :: st) w := fun C H locs ls hP hD hS hl => va_put (v := .int (bI b)) (ty := .boolean) (D := gD X) (ci := 0) (C := RX1) (T := TX1) (N := 17) C.1.1 C.1.2.1 C.1.2.2.2.2 in_X1 tyX1 tyX1_ok nmX1 C.1.2.2.2.1 C.2.1 hP hD hS 0 rfl rfl 14 (by decide) (C.1.2.2.2.2 _ q61) (fun _ h9 => h9) rfl (by decide +kernel) (by cases b <;> rfl) (by cases b <;> rfl) (Nat.le_of_ble_eq_true rfl) hd (fun H1 locs1 hP1 hD1 hS1 => kk C H1 locs1 ls hP1 hD1 hS1 hl)
theorem g1_state {v : Int32} (hd : decode cc pc = .ok (.getfield 55, 3)) (hv : w 10 5 = v) (kk : J X (K1 h d) cc nL k (pc + 3) lv (.int v :: st) w) : J X (K1 h d) cc nL k pc lv (.ref (h 0) :: st) w := fun C H locs ls hP hD hS hl => va_get (v := .int (w 10 5)) (D := gD X) (ci := 0) (C := RX1) (T := TX1) (N := 17) C.1.1 C.1.2.1 C.1.2.2.2.2 in_X1 C.1.2.2.2.1 C.2.1 hP 0 rfl rfl 15 (by decide) (C.1.2.2.2.2 _ q62) (fun _ h9 => h9) rfl hd (by rw [hv]; exact kk C H locs ls hP hD hS hl)
theorem p1_state {x : Int32} (hd : decode cc pc = .ok (.putfield 55, 3)) (kk : J X (K1 h d) cc nL k (pc + 3) lv st (wset w 10 5 (x))) : J X (K1 h d) cc nL k pc lv (.int (x) :: .ref (h 0) :: st) w := fun C H locs ls hP hD hS hl => va_put (v := .int (x)) (ty := .int) (D := gD X) (ci := 0) (C := RX1) (T := TX1) (N := 17) C.1.1 C.1.2.1 C.1.2.2.2.2 in_X1 tyX1 tyX1_ok nmX1 C.1.2.2.2.1 C.2.1 hP hD hS 0 rfl rfl 15 (by decide) (C.1.2.2.2.2 _ q62) (fun _ h9 => h9) rfl (by decide +kernel) rfl rfl (Nat.le_of_ble_eq_true rfl) hd (fun H1 locs1 hP1 hD1 hS1 => kk C H1 locs1 ls hP1 hD1 hS1 hl)
theorem g1_inClass {v : Int32} (hd : decode cc pc = .ok (.getfield 91, 3)) (hv : w 10 6 = v) (kk : J X (K1 h d) cc nL k (pc + 3) lv (.int v :: st) w) : J X (K1 h d) cc nL k pc lv (.ref (h 0) :: st) w := fun C H locs ls hP hD hS hl => va_get (v := .int (w 10 6)) (D := gD X) (ci := 0) (C := RX1) (T := TX1) (N := 17) C.1.1 C.1.2.1 C.1.2.2.2.2 in_X1 C.1.2.2.2.1 C.2.1 hP 0 rfl rfl 16 (by decide) (C.1.2.2.2.2 _ q63) (fun _ h9 => h9) rfl hd (by rw [hv]; exact kk C H locs ls hP hD hS hl)
theorem p1_inClass {x : Int32} (hd : decode cc pc = .ok (.putfield 91, 3)) (kk : J X (K1 h d) cc nL k (pc + 3) lv st (wset w 10 6 (x))) : J X (K1 h d) cc nL k pc lv (.int (x) :: .ref (h 0) :: st) w := fun C H locs ls hP hD hS hl => va_put (v := .int (x)) (ty := .int) (D := gD X) (ci := 0) (C := RX1) (T := TX1) (N := 17) C.1.1 C.1.2.1 C.1.2.2.2.2 in_X1 tyX1 tyX1_ok nmX1 C.1.2.2.2.1 C.2.1 hP hD hS 0 rfl rfl 16 (by decide) (C.1.2.2.2.2 _ q63) (fun _ h9 => h9) rfl (by decide +kernel) rfl rfl (Nat.le_of_ble_eq_true rfl) hd (fun H1 locs1 hP1 hD1 hS1 => kk C H1 locs1 ls hP1 hD1 hS1 hl)
theorem al1_entries {a : Nat} {v : Int32} (hd : decode cc pc = .ok (.iaload, 1)) (ha : a < 10) (hv : w 0 a = v) (kk : J X (K1 h d) cc nL k (pc + 1) lv (.int v :: st) w) : J X (K1 h d) cc nL k pc lv (.int (nI a) :: .ref (h 1) :: st) w := fun C H locs ls hP hD hS hl => va_iald C.1.1 C.1.2.1 C.2.1 hP 1 0 rfl rfl (vp_in_nI ha (by decide)) hd (by rw [nI_clamp (by omega), hv]; exact kk C H locs ls hP hD hS hl)
theorem as1_entries {a : Nat} {x : Int32} (hd : decode cc pc = .ok (.iastore, 1)) (ha : a < 10) (kk : J X (K1 h d) cc nL k (pc + 1) lv st (wset w 0 a (x))) : J X (K1 h d) cc nL k pc lv (.int (x) :: .int (nI a) :: .ref (h 1) :: st) w := by
  intro C H locs ls hP hD hS hl
  refine va_iast C.1.1 C.1.2.1 C.2.1 hP hD hS 1 0 rfl rfl (vp_in_nI ha (by decide)) hd (fun H1 locs1 hP1 hD1 hS1 => ?_)
  rw [nI_clamp (by omega)] at hP1 hD1
  exact kk C H1 locs1 ls hP1 hD1 hS1 hl
theorem al1_level {a : Nat} {v : Int32} (hd : decode cc pc = .ok (.iaload, 1)) (ha : a < 25) (hv : w 1 a = v) (kk : J X (K1 h d) cc nL k (pc + 1) lv (.int v :: st) w) : J X (K1 h d) cc nL k pc lv (.int (nI a) :: .ref (h 2) :: st) w := fun C H locs ls hP hD hS hl => va_iald C.1.1 C.1.2.1 C.2.1 hP 2 1 rfl rfl (vp_in_nI ha (by decide)) hd (by rw [nI_clamp (by omega), hv]; exact kk C H locs ls hP hD hS hl)
theorem as1_level {a : Nat} {x : Int32} (hd : decode cc pc = .ok (.iastore, 1)) (ha : a < 25) (kk : J X (K1 h d) cc nL k (pc + 1) lv st (wset w 1 a (x))) : J X (K1 h d) cc nL k pc lv (.int (x) :: .int (nI a) :: .ref (h 2) :: st) w := by
  intro C H locs ls hP hD hS hl
  refine va_iast C.1.1 C.1.2.1 C.2.1 hP hD hS 2 1 rfl rfl (vp_in_nI ha (by decide)) hd (fun H1 locs1 hP1 hD1 hS1 => ?_)
  rw [nI_clamp (by omega)] at hP1 hD1
  exact kk C H1 locs1 ls hP1 hD1 hS1 hl
theorem al1_sets {a : Nat} {v : Int32} (hd : decode cc pc = .ok (.iaload, 1)) (ha : a < 31) (hv : w 2 a = v) (kk : J X (K1 h d) cc nL k (pc + 1) lv (.int v :: st) w) : J X (K1 h d) cc nL k pc lv (.int (nI a) :: .ref (h 3) :: st) w := fun C H locs ls hP hD hS hl => va_iald C.1.1 C.1.2.1 C.2.1 hP 3 2 rfl rfl (vp_in_nI ha (by decide)) hd (by rw [nI_clamp (by omega), hv]; exact kk C H locs ls hP hD hS hl)
theorem as1_sets {a : Nat} {x : Int32} (hd : decode cc pc = .ok (.iastore, 1)) (ha : a < 31) (kk : J X (K1 h d) cc nL k (pc + 1) lv st (wset w 2 a (x))) : J X (K1 h d) cc nL k pc lv (.int (x) :: .int (nI a) :: .ref (h 3) :: st) w := by
  intro C H locs ls hP hD hS hl
  refine va_iast C.1.1 C.1.2.1 C.2.1 hP hD hS 3 2 rfl rfl (vp_in_nI ha (by decide)) hd (fun H1 locs1 hP1 hD1 hS1 => ?_)
  rw [nI_clamp (by omega)] at hP1 hD1
  exact kk C H1 locs1 ls hP1 hD1 hS1 hl
theorem al1_later {a : Nat} {v : Int32} (hd : decode cc pc = .ok (.iaload, 1)) (ha : a < 32) (hv : w 3 a = v) (kk : J X (K1 h d) cc nL k (pc + 1) lv (.int v :: st) w) : J X (K1 h d) cc nL k pc lv (.int (nI a) :: .ref (h 4) :: st) w := fun C H locs ls hP hD hS hl => va_iald C.1.1 C.1.2.1 C.2.1 hP 4 3 rfl rfl (vp_in_nI ha (by decide)) hd (by rw [nI_clamp (by omega), hv]; exact kk C H locs ls hP hD hS hl)
theorem as1_later {a : Nat} {x : Int32} (hd : decode cc pc = .ok (.iastore, 1)) (ha : a < 32) (kk : J X (K1 h d) cc nL k (pc + 1) lv st (wset w 3 a (x))) : J X (K1 h d) cc nL k pc lv (.int (x) :: .int (nI a) :: .ref (h 4) :: st) w := by
  intro C H locs ls hP hD hS hl
  refine va_iast C.1.1 C.1.2.1 C.2.1 hP hD hS 4 3 rfl rfl (vp_in_nI ha (by decide)) hd (fun H1 locs1 hP1 hD1 hS1 => ?_)
  rw [nI_clamp (by omega)] at hP1 hD1
  exact kk C H1 locs1 ls hP1 hD1 hS1 hl
theorem al1_largest {a : Nat} {v : Int32} (hd : decode cc pc = .ok (.iaload, 1)) (ha : a < 31) (hv : w 4 a = v) (kk : J X (K1 h d) cc nL k (pc + 1) lv (.int v :: st) w) : J X (K1 h d) cc nL k pc lv (.int (nI a) :: .ref (h 5) :: st) w := fun C H locs ls hP hD hS hl => va_iald C.1.1 C.1.2.1 C.2.1 hP 5 4 rfl rfl (vp_in_nI ha (by decide)) hd (by rw [nI_clamp (by omega), hv]; exact kk C H locs ls hP hD hS hl)
theorem as1_largest {a : Nat} {x : Int32} (hd : decode cc pc = .ok (.iastore, 1)) (ha : a < 31) (kk : J X (K1 h d) cc nL k (pc + 1) lv st (wset w 4 a (x))) : J X (K1 h d) cc nL k pc lv (.int (x) :: .int (nI a) :: .ref (h 5) :: st) w := by
  intro C H locs ls hP hD hS hl
  refine va_iast C.1.1 C.1.2.1 C.2.1 hP hD hS 5 4 rfl rfl (vp_in_nI ha (by decide)) hd (fun H1 locs1 hP1 hD1 hS1 => ?_)
  rw [nI_clamp (by omega)] at hP1 hD1
  exact kk C H1 locs1 ls hP1 hD1 hS1 hl
theorem al1_pick {a : Nat} {v : Int32} (hd : decode cc pc = .ok (.iaload, 1)) (ha : a < 6) (hv : w 5 a = v) (kk : J X (K1 h d) cc nL k (pc + 1) lv (.int v :: st) w) : J X (K1 h d) cc nL k pc lv (.int (nI a) :: .ref (h 6) :: st) w := fun C H locs ls hP hD hS hl => va_iald C.1.1 C.1.2.1 C.2.1 hP 6 5 rfl rfl (vp_in_nI ha (by decide)) hd (by rw [nI_clamp (by omega), hv]; exact kk C H locs ls hP hD hS hl)
theorem as1_pick {a : Nat} {x : Int32} (hd : decode cc pc = .ok (.iastore, 1)) (ha : a < 6) (kk : J X (K1 h d) cc nL k (pc + 1) lv st (wset w 5 a (x))) : J X (K1 h d) cc nL k pc lv (.int (x) :: .int (nI a) :: .ref (h 6) :: st) w := by
  intro C H locs ls hP hD hS hl
  refine va_iast C.1.1 C.1.2.1 C.2.1 hP hD hS 6 5 rfl rfl (vp_in_nI ha (by decide)) hd (fun H1 locs1 hP1 hD1 hS1 => ?_)
  rw [nI_clamp (by omega)] at hP1 hD1
  exact kk C H1 locs1 ls hP1 hD1 hS1 hl
theorem al1_union {a : Nat} {v : Int32} (hd : decode cc pc = .ok (.iaload, 1)) (ha : a < 6) (hv : w 6 a = v) (kk : J X (K1 h d) cc nL k (pc + 1) lv (.int v :: st) w) : J X (K1 h d) cc nL k pc lv (.int (nI a) :: .ref (h 7) :: st) w := fun C H locs ls hP hD hS hl => va_iald C.1.1 C.1.2.1 C.2.1 hP 7 6 rfl rfl (vp_in_nI ha (by decide)) hd (by rw [nI_clamp (by omega), hv]; exact kk C H locs ls hP hD hS hl)
theorem as1_union {a : Nat} {x : Int32} (hd : decode cc pc = .ok (.iastore, 1)) (ha : a < 6) (kk : J X (K1 h d) cc nL k (pc + 1) lv st (wset w 6 a (x))) : J X (K1 h d) cc nL k pc lv (.int (x) :: .int (nI a) :: .ref (h 7) :: st) w := by
  intro C H locs ls hP hD hS hl
  refine va_iast C.1.1 C.1.2.1 C.2.1 hP hD hS 7 6 rfl rfl (vp_in_nI ha (by decide)) hd (fun H1 locs1 hP1 hD1 hS1 => ?_)
  rw [nI_clamp (by omega)] at hP1 hD1
  exact kk C H1 locs1 ls hP1 hD1 hS1 hl
theorem al1_cover {a : Nat} {v : Int32} (hd : decode cc pc = .ok (.iaload, 1)) (ha : a < 5) (hv : w 7 a = v) (kk : J X (K1 h d) cc nL k (pc + 1) lv (.int v :: st) w) : J X (K1 h d) cc nL k pc lv (.int (nI a) :: .ref (h 8) :: st) w := fun C H locs ls hP hD hS hl => va_iald C.1.1 C.1.2.1 C.2.1 hP 8 7 rfl rfl (vp_in_nI ha (by decide)) hd (by rw [nI_clamp (by omega), hv]; exact kk C H locs ls hP hD hS hl)
theorem as1_cover {a : Nat} {x : Int32} (hd : decode cc pc = .ok (.iastore, 1)) (ha : a < 5) (kk : J X (K1 h d) cc nL k (pc + 1) lv st (wset w 7 a (x))) : J X (K1 h d) cc nL k pc lv (.int (x) :: .int (nI a) :: .ref (h 8) :: st) w := by
  intro C H locs ls hP hD hS hl
  refine va_iast C.1.1 C.1.2.1 C.2.1 hP hD hS 8 7 rfl rfl (vp_in_nI ha (by decide)) hd (fun H1 locs1 hP1 hD1 hS1 => ?_)
  rw [nI_clamp (by omega)] at hP1 hD1
  exact kk C H1 locs1 ls hP1 hD1 hS1 hl
theorem al1_nextClass {a : Nat} {v : Int32} (hd : decode cc pc = .ok (.iaload, 1)) (ha : a < 10) (hv : w 8 a = v) (kk : J X (K1 h d) cc nL k (pc + 1) lv (.int v :: st) w) : J X (K1 h d) cc nL k pc lv (.int (nI a) :: .ref (h 9) :: st) w := fun C H locs ls hP hD hS hl => va_iald C.1.1 C.1.2.1 C.2.1 hP 9 8 rfl rfl (vp_in_nI ha (by decide)) hd (by rw [nI_clamp (by omega), hv]; exact kk C H locs ls hP hD hS hl)
theorem as1_nextClass {a : Nat} {x : Int32} (hd : decode cc pc = .ok (.iastore, 1)) (ha : a < 10) (kk : J X (K1 h d) cc nL k (pc + 1) lv st (wset w 8 a (x))) : J X (K1 h d) cc nL k pc lv (.int (x) :: .int (nI a) :: .ref (h 9) :: st) w := by
  intro C H locs ls hP hD hS hl
  refine va_iast C.1.1 C.1.2.1 C.2.1 hP hD hS 9 8 rfl rfl (vp_in_nI ha (by decide)) hd (fun H1 locs1 hP1 hD1 hS1 => ?_)
  rw [nI_clamp (by omega)] at hP1 hD1
  exact kk C H1 locs1 ls hP1 hD1 hS1 hl
theorem al1_classOut {a : Nat} {v : Int32} (hd : decode cc pc = .ok (.iaload, 1)) (ha : a < 10) (hv : w 9 a = v) (kk : J X (K1 h d) cc nL k (pc + 1) lv (.int v :: st) w) : J X (K1 h d) cc nL k pc lv (.int (nI a) :: .ref (h 10) :: st) w := fun C H locs ls hP hD hS hl => va_iald C.1.1 C.1.2.1 C.2.1 hP 10 9 rfl rfl (vp_in_nI ha (by decide)) hd (by rw [nI_clamp (by omega), hv]; exact kk C H locs ls hP hD hS hl)
theorem as1_classOut {a : Nat} {x : Int32} (hd : decode cc pc = .ok (.iastore, 1)) (ha : a < 10) (kk : J X (K1 h d) cc nL k (pc + 1) lv st (wset w 9 a (x))) : J X (K1 h d) cc nL k pc lv (.int (x) :: .int (nI a) :: .ref (h 10) :: st) w := by
  intro C H locs ls hP hD hS hl
  refine va_iast C.1.1 C.1.2.1 C.2.1 hP hD hS 10 9 rfl rfl (vp_in_nI ha (by decide)) hd (fun H1 locs1 hP1 hD1 hS1 => ?_)
  rw [nI_clamp (by omega)] at hP1 hD1
  exact kk C H1 locs1 ls hP1 hD1 hS1 hl
theorem cl1_isState {x0 : Int32} {kc : Nat} {post : Int32 → Wd → Prop} (hd : decode cc pc = .ok (.invokevirtual 44, 3)) (hM : Mi (gl X) (gD X) (K1 h d) yX1_isState cX1_isState 2 kc (some .boolean) [.ref (h 0), .int x0] w post) (kk : ∀ r w', post r w' → J X (K1 h d) cc nL k (pc + 3) lv (.int r :: st) w') (hk : kc + 1 ≤ k := by decide) (hst : (st.map fun v => v.category).sum ≤ 8 := by exact Nat.le_of_ble_eq_true rfl) : J X (K1 h d) cc nL k pc lv (.int x0 :: .ref (h 0) :: st) w := j_callVi (As := [.int x0]) (n := 1) (ci := 0) (lw_V q108 q110 qs0 q37 q111) (by decide +kernel) rfl ⟨_, rfl⟩ rfl hk (by decide) hst hd hM kk
theorem cl1_isInput {x0 : Int32} {kc : Nat} {post : Int32 → Wd → Prop} (hd : decode cc pc = .ok (.invokestatic 48, 3)) (hM : Mi (gl X) (gD X) (K1 h d) yX1_isInput cX1_isInput 1 kc (some .boolean) [.int x0] w post) (kk : ∀ r w', post r w' → J X (K1 h d) cc nL k (pc + 3) lv (.int r :: st) w') (hk : kc + 1 ≤ k := by decide) (hst : (st.map fun v => v.category).sum ≤ 8 := by exact Nat.le_of_ble_eq_true rfl) : J X (K1 h d) cc nL k pc lv (.int x0 :: st) w := j_callSi (As := [.int x0]) (n := 1) (lw_S q112 q113 q37 q114) (by decide +kernel) rfl hk (by decide) hst hd hM kk
theorem cl1_refresh {kc : Nat} {post : Wd → Prop} (hd : decode cc pc = .ok (.invokevirtual 58, 3)) (hM : Mv (gl X) (gD X) (K1 h d) yX1_refresh cX1_refresh 2 kc [.ref (h 0)] w post) (kk : ∀ w', post w' → J X (K1 h d) cc nL k (pc + 3) lv st w') (hk : kc + 1 ≤ k := by decide) (hst : (st.map fun v => v.category).sum ≤ 8 := by exact Nat.le_of_ble_eq_true rfl) : J X (K1 h d) cc nL k pc lv (.ref (h 0) :: st) w := j_callVv (As := []) (n := 0) (ci := 0) (lw_V q123 q125 qs1 q37 q126) (by decide +kernel) rfl ⟨_, rfl⟩ rfl hk (by decide) hst hd hM kk
theorem cl1_levelPairs {kc : Nat} {post : Wd → Prop} (hd : decode cc pc = .ok (.invokevirtual 97, 3)) (hM : Mv (gl X) (gD X) (K1 h d) yX1_levelPairs cX1_levelPairs 5 kc [.ref (h 0)] w post) (kk : ∀ w', post w' → J X (K1 h d) cc nL k (pc + 3) lv st w') (hk : kc + 1 ≤ k := by decide) (hst : (st.map fun v => v.category).sum ≤ 8 := by exact Nat.le_of_ble_eq_true rfl) : J X (K1 h d) cc nL k pc lv (.ref (h 0) :: st) w := j_callVv (As := []) (n := 0) (ci := 0) (lw_V q127 q129 qs2 q37 q130) (by decide +kernel) rfl ⟨_, rfl⟩ rfl hk (by decide) hst hd hM kk
theorem cl1_splits {x0 x1 x2 x3 : Int32} {kc : Nat} {post : Int32 → Wd → Prop} (hd : decode cc pc = .ok (.invokevirtual 61, 3)) (hM : Mi (gl X) (gD X) (K1 h d) yX1_splits cX1_splits 7 kc (some .boolean) [.ref (h 0), .int x0, .int x1, .int x2, .int x3] w post) (kk : ∀ r w', post r w' → J X (K1 h d) cc nL k (pc + 3) lv (.int r :: st) w') (hk : kc + 1 ≤ k := by decide) (hst : (st.map fun v => v.category).sum ≤ 8 := by exact Nat.le_of_ble_eq_true rfl) : J X (K1 h d) cc nL k pc lv (.int x3 :: .int x2 :: .int x1 :: .int x0 :: .ref (h 0) :: st) w := j_callVi (As := [.int x0, .int x1, .int x2, .int x3]) (n := 4) (ci := 0) (lw_V q131 q133 qs3 q37 q134) (by decide +kernel) rfl ⟨_, rfl⟩ rfl hk (by decide) hst hd hM kk
theorem cl1_output {x0 x1 : Int32} {kc : Nat} {post : Int32 → Wd → Prop} (hd : decode cc pc = .ok (.invokevirtual 94, 3)) (hM : Mi (gl X) (gD X) (K1 h d) yX1_output cX1_output 3 kc (some .int) [.ref (h 0), .int x0, .int x1] w post) (kk : ∀ r w', post r w' → J X (K1 h d) cc nL k (pc + 3) lv (.int r :: st) w') (hk : kc + 1 ≤ k := by decide) (hst : (st.map fun v => v.category).sum ≤ 8 := by exact Nat.le_of_ble_eq_true rfl) : J X (K1 h d) cc nL k pc lv (.int x1 :: .int x0 :: .ref (h 0) :: st) w := j_callVi (As := [.int x0, .int x1]) (n := 2) (ci := 0) (lw_V q135 q137 qs4 q37 q138) (by decide +kernel) rfl ⟨_, rfl⟩ rfl hk (by decide) hst hd hM kk
theorem cl1_next {x0 x1 : Int32} {kc : Nat} {post : Int32 → Wd → Prop} (hd : decode cc pc = .ok (.invokevirtual 65, 3)) (hM : Mi (gl X) (gD X) (K1 h d) yX1_next cX1_next 3 kc (some .int) [.ref (h 0), .int x0, .int x1] w post) (kk : ∀ r w', post r w' → J X (K1 h d) cc nL k (pc + 3) lv (.int r :: st) w') (hk : kc + 1 ≤ k := by decide) (hst : (st.map fun v => v.category).sum ≤ 8 := by exact Nat.le_of_ble_eq_true rfl) : J X (K1 h d) cc nL k pc lv (.int x1 :: .int x0 :: .ref (h 0) :: st) w := j_callVi (As := [.int x0, .int x1]) (n := 2) (ci := 0) (lw_V q139 q141 qs5 q37 q142) (by decide +kernel) rfl ⟨_, rfl⟩ rfl hk (by decide) hst hd hM kk
theorem cl1_listSets {kc : Nat} {post : Wd → Prop} (hd : decode cc pc = .ok (.invokevirtual 100, 3)) (hM : Mv (gl X) (gD X) (K1 h d) yX1_listSets cX1_listSets 2 kc [.ref (h 0)] w post) (kk : ∀ w', post w' → J X (K1 h d) cc nL k (pc + 3) lv st w') (hk : kc + 1 ≤ k := by decide) (hst : (st.map fun v => v.category).sum ≤ 8 := by exact Nat.le_of_ble_eq_true rfl) : J X (K1 h d) cc nL k pc lv (.ref (h 0) :: st) w := j_callVv (As := []) (n := 0) (ci := 0) (lw_V q143 q145 qs6 q37 q146) (by decide +kernel) rfl ⟨_, rfl⟩ rfl hk (by decide) hst hd hM kk
theorem cl1_holdsTogether {x0 : Int32} {kc : Nat} {post : Int32 → Wd → Prop} (hd : decode cc pc = .ok (.invokevirtual 72, 3)) (hM : Mi (gl X) (gD X) (K1 h d) yX1_holdsTogether cX1_holdsTogether 5 kc (some .boolean) [.ref (h 0), .int x0] w post) (kk : ∀ r w', post r w' → J X (K1 h d) cc nL k (pc + 3) lv (.int r :: st) w') (hk : kc + 1 ≤ k := by decide) (hst : (st.map fun v => v.category).sum ≤ 8 := by exact Nat.le_of_ble_eq_true rfl) : J X (K1 h d) cc nL k pc lv (.int x0 :: .ref (h 0) :: st) w := j_callVi (As := [.int x0]) (n := 1) (ci := 0) (lw_V q147 q149 qs7 q37 q150) (by decide +kernel) rfl ⟨_, rfl⟩ rfl hk (by decide) hst hd hM kk
theorem cl1_listLargest {kc : Nat} {post : Wd → Prop} (hd : decode cc pc = .ok (.invokevirtual 103, 3)) (hM : Mv (gl X) (gD X) (K1 h d) yX1_listLargest cX1_listLargest 4 kc [.ref (h 0)] w post) (kk : ∀ w', post w' → J X (K1 h d) cc nL k (pc + 3) lv st w') (hk : kc + 1 ≤ k := by decide) (hst : (st.map fun v => v.category).sum ≤ 8 := by exact Nat.le_of_ble_eq_true rfl) : J X (K1 h d) cc nL k pc lv (.ref (h 0) :: st) w := j_callVv (As := []) (n := 0) (ci := 0) (lw_V q151 q153 qs8 q37 q154) (by decide +kernel) rfl ⟨_, rfl⟩ rfl hk (by decide) hst hd hM kk
theorem cl1_findCover {x0 : Int32} {kc : Nat} {post : Int32 → Wd → Prop} (hd : decode cc pc = .ok (.invokevirtual 106, 3)) (hM : Mi (gl X) (gD X) (K1 h d) yX1_findCover cX1_findCover 6 kc (some .boolean) [.ref (h 0), .int x0] w post) (kk : ∀ r w', post r w' → J X (K1 h d) cc nL k (pc + 3) lv (.int r :: st) w') (hk : kc + 1 ≤ k := by decide) (hst : (st.map fun v => v.category).sum ≤ 8 := by exact Nat.le_of_ble_eq_true rfl) : J X (K1 h d) cc nL k pc lv (.int x0 :: .ref (h 0) :: st) w := j_callVi (As := [.int x0]) (n := 1) (ci := 0) (lw_V q155 q157 qs9 q37 q158) (by decide +kernel) rfl ⟨_, rfl⟩ rfl hk (by decide) hst hd hM kk
theorem cl1_isClosed {x0 : Int32} {kc : Nat} {post : Int32 → Wd → Prop} (hd : decode cc pc = .ok (.invokevirtual 116, 3)) (hM : Mi (gl X) (gD X) (K1 h d) yX1_isClosed cX1_isClosed 4 kc (some .boolean) [.ref (h 0), .int x0] w post) (kk : ∀ r w', post r w' → J X (K1 h d) cc nL k (pc + 3) lv (.int r :: st) w') (hk : kc + 1 ≤ k := by decide) (hst : (st.map fun v => v.category).sum ≤ 8 := by exact Nat.le_of_ble_eq_true rfl) : J X (K1 h d) cc nL k pc lv (.int x0 :: .ref (h 0) :: st) w := j_callVi (As := [.int x0]) (n := 1) (ci := 0) (lw_V q160 q162 qs10 q37 q163) (by decide +kernel) rfl ⟨_, rfl⟩ rfl hk (by decide) hst hd hM kk
theorem cl1_image {x0 x1 : Int32} {kc : Nat} {post : Int32 → Wd → Prop} (hd : decode cc pc = .ok (.invokevirtual 78, 3)) (hM : Mi (gl X) (gD X) (K1 h d) yX1_image cX1_image 6 kc (some .int) [.ref (h 0), .int x0, .int x1] w post) (kk : ∀ r w', post r w' → J X (K1 h d) cc nL k (pc + 3) lv (.int r :: st) w') (hk : kc + 1 ≤ k := by decide) (hst : (st.map fun v => v.category).sum ≤ 8 := by exact Nat.le_of_ble_eq_true rfl) : J X (K1 h d) cc nL k pc lv (.int x1 :: .int x0 :: .ref (h 0) :: st) w := j_callVi (As := [.int x0, .int x1]) (n := 2) (ci := 0) (lw_V q164 q166 qs11 q37 q167) (by decide +kernel) rfl ⟨_, rfl⟩ rfl hk (by decide) hst hd hM kk
theorem cl1_firstWith {x0 : Int32} {kc : Nat} {post : Int32 → Wd → Prop} (hd : decode cc pc = .ok (.invokevirtual 87, 3)) (hM : Mi (gl X) (gD X) (K1 h d) yX1_firstWith cX1_firstWith 3 kc (some .int) [.ref (h 0), .int x0] w post) (kk : ∀ r w', post r w' → J X (K1 h d) cc nL k (pc + 3) lv (.int r :: st) w') (hk : kc + 1 ≤ k := by decide) (hst : (st.map fun v => v.category).sum ≤ 8 := by exact Nat.le_of_ble_eq_true rfl) : J X (K1 h d) cc nL k pc lv (.int x0 :: .ref (h 0) :: st) w := j_callVi (As := [.int x0]) (n := 1) (ci := 0) (lw_V q168 q170 qs12 q37 q171) (by decide +kernel) rfl ⟨_, rfl⟩ rfl hk (by decide) hst hd hM kk
theorem cl1_buildClasses {kc : Nat} {post : Wd → Prop} (hd : decode cc pc = .ok (.invokevirtual 109, 3)) (hM : Mv (gl X) (gD X) (K1 h d) yX1_buildClasses cX1_buildClasses 3 kc [.ref (h 0)] w post) (kk : ∀ w', post w' → J X (K1 h d) cc nL k (pc + 3) lv st w') (hk : kc + 1 ≤ k := by decide) (hst : (st.map fun v => v.category).sum ≤ 8 := by exact Nat.le_of_ble_eq_true rfl) : J X (K1 h d) cc nL k pc lv (.ref (h 0) :: st) w := j_callVv (As := []) (n := 0) (ci := 0) (lw_V q172 q174 qs13 q37 q175) (by decide +kernel) rfl ⟨_, rfl⟩ rfl hk (by decide) hst hd hM kk
theorem cl1_sharedOutput {x0 x1 : Int32} {kc : Nat} {post : Int32 → Wd → Prop} (hd : decode cc pc = .ok (.invokevirtual 119, 3)) (hM : Mi (gl X) (gD X) (K1 h d) yX1_sharedOutput cX1_sharedOutput 5 kc (some .int) [.ref (h 0), .int x0, .int x1] w post) (kk : ∀ r w', post r w' → J X (K1 h d) cc nL k (pc + 3) lv (.int r :: st) w') (hk : kc + 1 ≤ k := by decide) (hst : (st.map fun v => v.category).sum ≤ 8 := by exact Nat.le_of_ble_eq_true rfl) : J X (K1 h d) cc nL k pc lv (.int x1 :: .int x0 :: .ref (h 0) :: st) w := j_callVi (As := [.int x0, .int x1]) (n := 2) (ci := 0) (lw_V q176 q178 qs14 q37 q179) (by decide +kernel) rfl ⟨_, rfl⟩ rfl hk (by decide) hst hd hM kk
theorem cl1_isSet {x0 : Int32} {kc : Nat} {post : Int32 → Wd → Prop} (hd : decode cc pc = .ok (.invokevirtual 69, 3)) (hM : Mi (gl X) (gD X) (K1 h d) yX1_isSet cX1_isSet 2 kc (some .boolean) [.ref (h 0), .int x0] w post) (kk : ∀ r w', post r w' → J X (K1 h d) cc nL k (pc + 3) lv (.int r :: st) w') (hk : kc + 1 ≤ k := by decide) (hst : (st.map fun v => v.category).sum ≤ 8 := by exact Nat.le_of_ble_eq_true rfl) : J X (K1 h d) cc nL k pc lv (.int x0 :: .ref (h 0) :: st) w := j_callVi (As := [.int x0]) (n := 1) (ci := 0) (lw_V q192 q194 qs15 q37 q195) (by decide +kernel) rfl ⟨_, rfl⟩ rfl hk (by decide) hst hd hM kk
theorem cl1_inOne {x0 x1 x2 x3 : Int32} {kc : Nat} {post : Int32 → Wd → Prop} (hd : decode cc pc = .ok (.invokestatic 84, 3)) (hM : Mi (gl X) (gD X) (K1 h d) yX1_inOne cX1_inOne 4 kc (some .boolean) [.int x0, .int x1, .int x2, .int x3] w post) (kk : ∀ r w', post r w' → J X (K1 h d) cc nL k (pc + 3) lv (.int r :: st) w') (hk : kc + 1 ≤ k := by decide) (hst : (st.map fun v => v.category).sum ≤ 8 := by exact Nat.le_of_ble_eq_true rfl) : J X (K1 h d) cc nL k pc lv (.int x3 :: .int x2 :: .int x1 :: .int x0 :: st) w := j_callSi (As := [.int x0, .int x1, .int x2, .int x3]) (n := 4) (lw_S q220 q221 q37 q222) (by decide +kernel) rfl hk (by decide) hst hd hM kk
end R1
section R2
variable {X : Gm} {h : Nat → Nat} {d : Nat → ClassId} {cc : ByteArray} {nL k pc : Nat} {lv st : List Value} {w : Wd}
theorem g2_n {v : Int32} (hd : decode cc pc = .ok (.getfield 20, 3)) (hv : w 10 0 = v) (kk : J X (K2 h d) cc nL k (pc + 3) lv (.int v :: st) w) : J X (K2 h d) cc nL k pc lv (.ref (h 0) :: st) w := fun C H locs ls hP hD hS hl => va_get (v := .int (w 10 0)) (D := gD X) (ci := 1) (C := RX2) (T := TX2) (N := 6) C.1.1 C.1.2.1 C.1.2.2.2.2 in_X2 C.1.2.2.2.1 C.2.1 hP 0 rfl rfl 0 (by decide) (C.1.2.2.2.2 _ q244) (fun _ h9 => h9) rfl hd (by rw [hv]; exact kk C H locs ls hP hD hS hl)
theorem p2_n {x : Int32} (hd : decode cc pc = .ok (.putfield 20, 3)) (kk : J X (K2 h d) cc nL k (pc + 3) lv st (wset w 10 0 (x))) : J X (K2 h d) cc nL k pc lv (.int (x) :: .ref (h 0) :: st) w := fun C H locs ls hP hD hS hl => va_put (v := .int (x)) (ty := .int) (D := gD X) (ci := 1) (C := RX2) (T := TX2) (N := 6) C.1.1 C.1.2.1 C.1.2.2.2.2 in_X2 tyX2 tyX2_ok nmX2 C.1.2.2.2.1 C.2.1 hP hD hS 0 rfl rfl 0 (by decide) (C.1.2.2.2.2 _ q244) (fun _ h9 => h9) rfl (by decide +kernel) rfl rfl (Nat.le_of_ble_eq_true rfl) hd (fun H1 locs1 hP1 hD1 hS1 => kk C H1 locs1 ls hP1 hD1 hS1 hl)
theorem g2_entry (hd : decode cc pc = .ok (.getfield 7, 3)) (kk : J X (K2 h d) cc nL k (pc + 3) lv (.ref (h 1) :: st) w) : J X (K2 h d) cc nL k pc lv (.ref (h 0) :: st) w := fun C H locs ls hP hD hS hl => va_get (v := .ref (h 1)) (D := gD X) (ci := 1) (C := RX2) (T := TX2) (N := 6) C.1.1 C.1.2.1 C.1.2.2.2.2 in_X2 C.1.2.2.2.1 C.2.1 hP 0 rfl rfl 1 (by decide) (C.1.2.2.2.2 _ q245) (fun _ h9 => h9) rfl hd (kk C H locs ls hP hD hS hl)
theorem g2_at {v : Int32} (hd : decode cc pc = .ok (.getfield 31, 3)) (hv : w 10 1 = v) (kk : J X (K2 h d) cc nL k (pc + 3) lv (.int v :: st) w) : J X (K2 h d) cc nL k pc lv (.ref (h 0) :: st) w := fun C H locs ls hP hD hS hl => va_get (v := .int (w 10 1)) (D := gD X) (ci := 1) (C := RX2) (T := TX2) (N := 6) C.1.1 C.1.2.1 C.1.2.2.2.2 in_X2 C.1.2.2.2.1 C.2.1 hP 0 rfl rfl 2 (by decide) (C.1.2.2.2.2 _ q246) (fun _ h9 => h9) rfl hd (by rw [hv]; exact kk C H locs ls hP hD hS hl)
theorem p2_at {x : Int32} (hd : decode cc pc = .ok (.putfield 31, 3)) (kk : J X (K2 h d) cc nL k (pc + 3) lv st (wset w 10 1 (x))) : J X (K2 h d) cc nL k pc lv (.int (x) :: .ref (h 0) :: st) w := fun C H locs ls hP hD hS hl => va_put (v := .int (x)) (ty := .int) (D := gD X) (ci := 1) (C := RX2) (T := TX2) (N := 6) C.1.1 C.1.2.1 C.1.2.2.2.2 in_X2 tyX2 tyX2_ok nmX2 C.1.2.2.2.1 C.2.1 hP hD hS 0 rfl rfl 2 (by decide) (C.1.2.2.2.2 _ q246) (fun _ h9 => h9) rfl (by decide +kernel) rfl rfl (Nat.le_of_ble_eq_true rfl) hd (fun H1 locs1 hP1 hD1 hS1 => kk C H1 locs1 ls hP1 hD1 hS1 hl)
theorem g2_fits (hd : decode cc pc = .ok (.getfield 13, 3)) (kk : J X (K2 h d) cc nL k (pc + 3) lv (.ref (h 2) :: st) w) : J X (K2 h d) cc nL k pc lv (.ref (h 0) :: st) w := fun C H locs ls hP hD hS hl => va_get (v := .ref (h 2)) (D := gD X) (ci := 1) (C := RX2) (T := TX2) (N := 6) C.1.1 C.1.2.1 C.1.2.2.2.2 in_X2 C.1.2.2.2.1 C.2.1 hP 0 rfl rfl 3 (by decide) (C.1.2.2.2.2 _ q247) (fun _ h9 => h9) rfl hd (kk C H locs ls hP hD hS hl)
theorem g2_chosen (hd : decode cc pc = .ok (.getfield 17, 3)) (kk : J X (K2 h d) cc nL k (pc + 3) lv (.ref (h 3) :: st) w) : J X (K2 h d) cc nL k pc lv (.ref (h 0) :: st) w := fun C H locs ls hP hD hS hl => va_get (v := .ref (h 3)) (D := gD X) (ci := 1) (C := RX2) (T := TX2) (N := 6) C.1.1 C.1.2.1 C.1.2.2.2.2 in_X2 C.1.2.2.2.1 C.2.1 hP 0 rfl rfl 4 (by decide) (C.1.2.2.2.2 _ q248) (fun _ h9 => h9) rfl hd (kk C H locs ls hP hD hS hl)
theorem g2_size {v : Int32} (hd : decode cc pc = .ok (.getfield 71, 3)) (hv : w 10 2 = v) (kk : J X (K2 h d) cc nL k (pc + 3) lv (.int v :: st) w) : J X (K2 h d) cc nL k pc lv (.ref (h 0) :: st) w := fun C H locs ls hP hD hS hl => va_get (v := .int (w 10 2)) (D := gD X) (ci := 1) (C := RX2) (T := TX2) (N := 6) C.1.1 C.1.2.1 C.1.2.2.2.2 in_X2 C.1.2.2.2.1 C.2.1 hP 0 rfl rfl 5 (by decide) (C.1.2.2.2.2 _ q249) (fun _ h9 => h9) rfl hd (by rw [hv]; exact kk C H locs ls hP hD hS hl)
theorem p2_size {x : Int32} (hd : decode cc pc = .ok (.putfield 71, 3)) (kk : J X (K2 h d) cc nL k (pc + 3) lv st (wset w 10 2 (x))) : J X (K2 h d) cc nL k pc lv (.int (x) :: .ref (h 0) :: st) w := fun C H locs ls hP hD hS hl => va_put (v := .int (x)) (ty := .int) (D := gD X) (ci := 1) (C := RX2) (T := TX2) (N := 6) C.1.1 C.1.2.1 C.1.2.2.2.2 in_X2 tyX2 tyX2_ok nmX2 C.1.2.2.2.1 C.2.1 hP hD hS 0 rfl rfl 5 (by decide) (C.1.2.2.2.2 _ q249) (fun _ h9 => h9) rfl (by decide +kernel) rfl rfl (Nat.le_of_ble_eq_true rfl) hd (fun H1 locs1 hP1 hD1 hS1 => kk C H1 locs1 ls hP1 hD1 hS1 hl)
theorem al2_entry {a : Nat} {v : Int32} (hd : decode cc pc = .ok (.iaload, 1)) (ha : a < 10) (hv : w 0 a = v) (kk : J X (K2 h d) cc nL k (pc + 1) lv (.int v :: st) w) : J X (K2 h d) cc nL k pc lv (.int (nI a) :: .ref (h 1) :: st) w := fun C H locs ls hP hD hS hl => va_iald C.1.1 C.1.2.1 C.2.1 hP 1 0 rfl rfl (vp_in_nI ha (by decide)) hd (by rw [nI_clamp (by omega), hv]; exact kk C H locs ls hP hD hS hl)
theorem as2_entry {a : Nat} {x : Int32} (hd : decode cc pc = .ok (.iastore, 1)) (ha : a < 10) (kk : J X (K2 h d) cc nL k (pc + 1) lv st (wset w 0 a (x))) : J X (K2 h d) cc nL k pc lv (.int (x) :: .int (nI a) :: .ref (h 1) :: st) w := by
  intro C H locs ls hP hD hS hl
  refine va_iast C.1.1 C.1.2.1 C.2.1 hP hD hS 1 0 rfl rfl (vp_in_nI ha (by decide)) hd (fun H1 locs1 hP1 hD1 hS1 => ?_)
  rw [nI_clamp (by omega)] at hP1 hD1
  exact kk C H1 locs1 ls hP1 hD1 hS1 hl
theorem al2_fits {a : Nat} {v : Int32} (hd : decode cc pc = .ok (.baload, 1)) (ha : a < 64) (hv : w 1 a = v) (kk : J X (K2 h d) cc nL k (pc + 1) lv (.int v :: st) w) : J X (K2 h d) cc nL k pc lv (.int (nI a) :: .ref (h 2) :: st) w := fun C H locs ls hP hD hS hl => va_zald C.1.1 C.1.2.1 C.2.1 hP 2 1 rfl rfl (vp_in_nI ha (by decide)) hd (by rw [nI_clamp (by omega), hv]; exact kk C H locs ls hP hD hS hl)
theorem as2_fits {a : Nat} {b : Bool} (hd : decode cc pc = .ok (.bastore, 1)) (ha : a < 64) (kk : J X (K2 h d) cc nL k (pc + 1) lv st (wset w 1 a (bI b))) : J X (K2 h d) cc nL k pc lv (.int (bI b) :: .int (nI a) :: .ref (h 2) :: st) w := by
  intro C H locs ls hP hD hS hl
  refine va_zast C.1.1 C.1.2.1 C.2.1 hP hD hS 2 1 rfl rfl (vp_in_nI ha (by decide)) hd (fun H1 locs1 hP1 hD1 hS1 => ?_)
  rw [nI_clamp (by omega)] at hP1 hD1
  have eb : vp_nar .boolean (bI b) = bI b := by cases b <;> rfl
  rw [eb] at hP1 hD1
  exact kk C H1 locs1 ls hP1 hD1 hS1 hl
theorem al2_chosen {a : Nat} {v : Int32} (hd : decode cc pc = .ok (.iaload, 1)) (ha : a < 5) (hv : w 2 a = v) (kk : J X (K2 h d) cc nL k (pc + 1) lv (.int v :: st) w) : J X (K2 h d) cc nL k pc lv (.int (nI a) :: .ref (h 3) :: st) w := fun C H locs ls hP hD hS hl => va_iald C.1.1 C.1.2.1 C.2.1 hP 3 2 rfl rfl (vp_in_nI ha (by decide)) hd (by rw [nI_clamp (by omega), hv]; exact kk C H locs ls hP hD hS hl)
theorem as2_chosen {a : Nat} {x : Int32} (hd : decode cc pc = .ok (.iastore, 1)) (ha : a < 5) (kk : J X (K2 h d) cc nL k (pc + 1) lv st (wset w 2 a (x))) : J X (K2 h d) cc nL k pc lv (.int (x) :: .int (nI a) :: .ref (h 3) :: st) w := by
  intro C H locs ls hP hD hS hl
  refine va_iast C.1.1 C.1.2.1 C.2.1 hP hD hS 3 2 rfl rfl (vp_in_nI ha (by decide)) hd (fun H1 locs1 hP1 hD1 hS1 => ?_)
  rw [nI_clamp (by omega)] at hP1 hD1
  exact kk C H1 locs1 ls hP1 hD1 hS1 hl
theorem cl2_badState {x0 : Int32} {kc : Nat} {post : Int32 → Wd → Prop} (hd : decode cc pc = .ok (.invokevirtual 24, 3)) (hM : Mi (gl X) (gD X) (K2 h d) yX2_badState cX2_badState 2 kc (some .boolean) [.ref (h 0), .int x0] w post) (kk : ∀ r w', post r w' → J X (K2 h d) cc nL k (pc + 3) lv (.int r :: st) w') (hk : kc + 1 ≤ k := by decide) (hst : (st.map fun v => v.category).sum ≤ 8 := by exact Nat.le_of_ble_eq_true rfl) : J X (K2 h d) cc nL k pc lv (.int x0 :: .ref (h 0) :: st) w := j_callVi (As := [.int x0]) (n := 1) (ci := 1) (lw_V q272 q274 qs16 q38 q275) (by decide +kernel) rfl ⟨_, rfl⟩ rfl hk (by decide) hst hd hM kk
theorem cl2_badInput {x0 : Int32} {kc : Nat} {post : Int32 → Wd → Prop} (hd : decode cc pc = .ok (.invokevirtual 28, 3)) (hM : Mi (gl X) (gD X) (K2 h d) yX2_badInput cX2_badInput 2 kc (some .boolean) [.ref (h 0), .int x0] w post) (kk : ∀ r w', post r w' → J X (K2 h d) cc nL k (pc + 3) lv (.int r :: st) w') (hk : kc + 1 ≤ k := by decide) (hst : (st.map fun v => v.category).sum ≤ 8 := by exact Nat.le_of_ble_eq_true rfl) : J X (K2 h d) cc nL k pc lv (.int x0 :: .ref (h 0) :: st) w := j_callVi (As := [.int x0]) (n := 1) (ci := 1) (lw_V q276 q278 qs17 q38 q279) (by decide +kernel) rfl ⟨_, rfl⟩ rfl hk (by decide) hst hd hM kk
theorem cl2_shortest {x0 x1 : Int32} {kc : Nat} {post : Int32 → Wd → Prop} (hd : decode cc pc = .ok (.invokevirtual 49, 3)) (hM : Mi (gl X) (gD X) (K2 h d) yX2_shortest cX2_shortest 6 kc (some .int) [.ref (h 0), .int x0, .int x1] w post) (kk : ∀ r w', post r w' → J X (K2 h d) cc nL k (pc + 3) lv (.int r :: st) w') (hk : kc + 1 ≤ k := by decide) (hst : (st.map fun v => v.category).sum ≤ 8 := by exact Nat.le_of_ble_eq_true rfl) : J X (K2 h d) cc nL k pc lv (.int x1 :: .int x0 :: .ref (h 0) :: st) w := j_callVi (As := [.int x0, .int x1]) (n := 2) (ci := 1) (lw_V q288 q290 qs18 q38 q291) (by decide +kernel) rfl ⟨_, rfl⟩ rfl hk (by decide) hst hd hM kk
theorem cl2_splitter {x0 x1 x2 : Int32} {kc : Nat} {post : Int32 → Wd → Prop} (hd : decode cc pc = .ok (.invokevirtual 45, 3)) (hM : Mi (gl X) (gD X) (K2 h d) yX2_splitter cX2_splitter 5 kc (some .int) [.ref (h 0), .int x0, .int x1, .int x2] w post) (kk : ∀ r w', post r w' → J X (K2 h d) cc nL k (pc + 3) lv (.int r :: st) w') (hk : kc + 1 ≤ k := by decide) (hst : (st.map fun v => v.category).sum ≤ 8 := by exact Nat.le_of_ble_eq_true rfl) : J X (K2 h d) cc nL k pc lv (.int x2 :: .int x1 :: .int x0 :: .ref (h 0) :: st) w := j_callVi (As := [.int x0, .int x1, .int x2]) (n := 3) (ci := 1) (lw_V q292 q294 qs19 q38 q295) (by decide +kernel) rfl ⟨_, rfl⟩ rfl hk (by decide) hst hd hM kk
theorem cl2_splits {x0 x1 x2 x3 : Int32} {kc : Nat} {post : Int32 → Wd → Prop} (hd : decode cc pc = .ok (.invokevirtual 41, 3)) (hM : Mi (gl X) (gD X) (K2 h d) yX2_splits cX2_splits 9 kc (some .boolean) [.ref (h 0), .int x0, .int x1, .int x2, .int x3] w post) (kk : ∀ r w', post r w' → J X (K2 h d) cc nL k (pc + 3) lv (.int r :: st) w') (hk : kc + 1 ≤ k := by decide) (hst : (st.map fun v => v.category).sum ≤ 8 := by exact Nat.le_of_ble_eq_true rfl) : J X (K2 h d) cc nL k pc lv (.int x3 :: .int x2 :: .int x1 :: .int x0 :: .ref (h 0) :: st) w := j_callVi (As := [.int x0, .int x1, .int x2, .int x3]) (n := 4) (ci := 1) (lw_V q296 q298 qs20 q38 q299) (by decide +kernel) rfl ⟨_, rfl⟩ rfl hk (by decide) hst hd hM kk
theorem cl2_next {x0 x1 : Int32} {kc : Nat} {post : Int32 → Wd → Prop} (hd : decode cc pc = .ok (.invokevirtual 34, 3)) (hM : Mi (gl X) (gD X) (K2 h d) yX2_next cX2_next 3 kc (some .int) [.ref (h 0), .int x0, .int x1] w post) (kk : ∀ r w', post r w' → J X (K2 h d) cc nL k (pc + 3) lv (.int r :: st) w') (hk : kc + 1 ≤ k := by decide) (hst : (st.map fun v => v.category).sum ≤ 8 := by exact Nat.le_of_ble_eq_true rfl) : J X (K2 h d) cc nL k pc lv (.int x1 :: .int x0 :: .ref (h 0) :: st) w := j_callVi (As := [.int x0, .int x1]) (n := 2) (ci := 1) (lw_V q300 q302 qs21 q38 q303) (by decide +kernel) rfl ⟨_, rfl⟩ rfl hk (by decide) hst hd hM kk
theorem cl2_output {x0 x1 : Int32} {kc : Nat} {post : Int32 → Wd → Prop} (hd : decode cc pc = .ok (.invokevirtual 38, 3)) (hM : Mi (gl X) (gD X) (K2 h d) yX2_output cX2_output 3 kc (some .int) [.ref (h 0), .int x0, .int x1] w post) (kk : ∀ r w', post r w' → J X (K2 h d) cc nL k (pc + 3) lv (.int r :: st) w') (hk : kc + 1 ≤ k := by decide) (hst : (st.map fun v => v.category).sum ≤ 8 := by exact Nat.le_of_ble_eq_true rfl) : J X (K2 h d) cc nL k pc lv (.int x1 :: .int x0 :: .ref (h 0) :: st) w := j_callVi (As := [.int x0, .int x1]) (n := 2) (ci := 1) (lw_V q304 q306 qs22 q38 q307) (by decide +kernel) rfl ⟨_, rfl⟩ rfl hk (by decide) hst hd hM kk
theorem cl2_badSet {x0 : Int32} {kc : Nat} {post : Int32 → Wd → Prop} (hd : decode cc pc = .ok (.invokevirtual 56, 3)) (hM : Mi (gl X) (gD X) (K2 h d) yX2_badSet cX2_badSet 2 kc (some .boolean) [.ref (h 0), .int x0] w post) (kk : ∀ r w', post r w' → J X (K2 h d) cc nL k (pc + 3) lv (.int r :: st) w') (hk : kc + 1 ≤ k := by decide) (hst : (st.map fun v => v.category).sum ≤ 8 := by exact Nat.le_of_ble_eq_true rfl) : J X (K2 h d) cc nL k pc lv (.int x0 :: .ref (h 0) :: st) w := j_callVi (As := [.int x0]) (n := 1) (ci := 1) (lw_V q320 q322 qs23 q38 q323) (by decide +kernel) rfl ⟨_, rfl⟩ rfl hk (by decide) hst hd hM kk
theorem cl2_tabulate {kc : Nat} {post : Wd → Prop} (hd : decode cc pc = .ok (.invokevirtual 59, 3)) (hM : Mv (gl X) (gD X) (K2 h d) yX2_tabulate cX2_tabulate 3 kc [.ref (h 0)] w post) (kk : ∀ w', post w' → J X (K2 h d) cc nL k (pc + 3) lv st w') (hk : kc + 1 ≤ k := by decide) (hst : (st.map fun v => v.category).sum ≤ 8 := by exact Nat.le_of_ble_eq_true rfl) : J X (K2 h d) cc nL k pc lv (.ref (h 0) :: st) w := j_callVv (As := []) (n := 0) (ci := 1) (lw_V q324 q326 qs24 q38 q327) (by decide +kernel) rfl ⟨_, rfl⟩ rfl hk (by decide) hst hd hM kk
theorem cl2_agreeing {x0 : Int32} {kc : Nat} {post : Int32 → Wd → Prop} (hd : decode cc pc = .ok (.invokevirtual 62, 3)) (hM : Mi (gl X) (gD X) (K2 h d) yX2_agreeing cX2_agreeing 4 kc (some .boolean) [.ref (h 0), .int x0] w post) (kk : ∀ r w', post r w' → J X (K2 h d) cc nL k (pc + 3) lv (.int r :: st) w') (hk : kc + 1 ≤ k := by decide) (hst : (st.map fun v => v.category).sum ≤ 8 := by exact Nat.le_of_ble_eq_true rfl) : J X (K2 h d) cc nL k pc lv (.int x0 :: .ref (h 0) :: st) w := j_callVi (As := [.int x0]) (n := 1) (ci := 1) (lw_V q328 q330 qs25 q38 q331) (by decide +kernel) rfl ⟨_, rfl⟩ rfl hk (by decide) hst hd hM kk
theorem cl2_in {x0 x1 : Int32} {kc : Nat} {post : Int32 → Wd → Prop} (hd : decode cc pc = .ok (.invokevirtual 52, 3)) (hM : Mi (gl X) (gD X) (K2 h d) yX2_in cX2_in 3 kc (some .boolean) [.ref (h 0), .int x0, .int x1] w post) (kk : ∀ r w', post r w' → J X (K2 h d) cc nL k (pc + 3) lv (.int r :: st) w') (hk : kc + 1 ≤ k := by decide) (hst : (st.map fun v => v.category).sum ≤ 8 := by exact Nat.le_of_ble_eq_true rfl) : J X (K2 h d) cc nL k pc lv (.int x1 :: .int x0 :: .ref (h 0) :: st) w := j_callVi (As := [.int x0, .int x1]) (n := 2) (ci := 1) (lw_V q332 q334 qs26 q38 q335) (by decide +kernel) rfl ⟨_, rfl⟩ rfl hk (by decide) hst hd hM kk
theorem cl2_largest {x0 : Int32} {kc : Nat} {post : Int32 → Wd → Prop} (hd : decode cc pc = .ok (.invokevirtual 65, 3)) (hM : Mi (gl X) (gD X) (K2 h d) yX2_largest cX2_largest 3 kc (some .boolean) [.ref (h 0), .int x0] w post) (kk : ∀ r w', post r w' → J X (K2 h d) cc nL k (pc + 3) lv (.int r :: st) w') (hk : kc + 1 ≤ k := by decide) (hst : (st.map fun v => v.category).sum ≤ 8 := by exact Nat.le_of_ble_eq_true rfl) : J X (K2 h d) cc nL k pc lv (.int x0 :: .ref (h 0) :: st) w := j_callVi (As := [.int x0]) (n := 1) (ci := 1) (lw_V q340 q342 qs27 q38 q343) (by decide +kernel) rfl ⟨_, rfl⟩ rfl hk (by decide) hst hd hM kk
theorem cl2_image {x0 x1 : Int32} {kc : Nat} {post : Int32 → Wd → Prop} (hd : decode cc pc = .ok (.invokevirtual 68, 3)) (hM : Mi (gl X) (gD X) (K2 h d) yX2_image cX2_image 6 kc (some .int) [.ref (h 0), .int x0, .int x1] w post) (kk : ∀ r w', post r w' → J X (K2 h d) cc nL k (pc + 3) lv (.int r :: st) w') (hk : kc + 1 ≤ k := by decide) (hst : (st.map fun v => v.category).sum ≤ 8 := by exact Nat.le_of_ble_eq_true rfl) : J X (K2 h d) cc nL k pc lv (.int x1 :: .int x0 :: .ref (h 0) :: st) w := j_callVi (As := [.int x0, .int x1]) (n := 2) (ci := 1) (lw_V q352 q354 qs28 q38 q355) (by decide +kernel) rfl ⟨_, rfl⟩ rfl hk (by decide) hst hd hM kk
theorem cl2_best {kc : Nat} {post : Wd → Prop} (hd : decode cc pc = .ok (.invokevirtual 92, 3)) (hM : Mv (gl X) (gD X) (K2 h d) yX2_best cX2_best 4 kc [.ref (h 0)] w post) (kk : ∀ w', post w' → J X (K2 h d) cc nL k (pc + 3) lv st w') (hk : kc + 1 ≤ k := by decide) (hst : (st.map fun v => v.category).sum ≤ 8 := by exact Nat.le_of_ble_eq_true rfl) : J X (K2 h d) cc nL k pc lv (.ref (h 0) :: st) w := j_callVv (As := []) (n := 0) (ci := 1) (lw_V q360 q362 qs29 q38 q363) (by decide +kernel) rfl ⟨_, rfl⟩ rfl hk (by decide) hst hd hM kk
theorem cl2_room {x0 x1 : Int32} {kc : Nat} {post : Int32 → Wd → Prop} (hd : decode cc pc = .ok (.invokevirtual 77, 3)) (hM : Mi (gl X) (gD X) (K2 h d) yX2_room cX2_room 5 kc (some .boolean) [.ref (h 0), .int x0, .int x1] w post) (kk : ∀ r w', post r w' → J X (K2 h d) cc nL k (pc + 3) lv (.int r :: st) w') (hk : kc + 1 ≤ k := by decide) (hst : (st.map fun v => v.category).sum ≤ 8 := by exact Nat.le_of_ble_eq_true rfl) : J X (K2 h d) cc nL k pc lv (.int x1 :: .int x0 :: .ref (h 0) :: st) w := j_callVi (As := [.int x0, .int x1]) (n := 2) (ci := 1) (lw_V q364 q366 qs30 q38 q367) (by decide +kernel) rfl ⟨_, rfl⟩ rfl hk (by decide) hst hd hM kk
theorem cl2_place {x0 x1 : Int32} {kc : Nat} {post : Wd → Prop} (hd : decode cc pc = .ok (.invokevirtual 80, 3)) (hM : Mv (gl X) (gD X) (K2 h d) yX2_place cX2_place 5 kc [.ref (h 0), .int x0, .int x1] w post) (kk : ∀ w', post w' → J X (K2 h d) cc nL k (pc + 3) lv st w') (hk : kc + 1 ≤ k := by decide) (hst : (st.map fun v => v.category).sum ≤ 8 := by exact Nat.le_of_ble_eq_true rfl) : J X (K2 h d) cc nL k pc lv (.int x1 :: .int x0 :: .ref (h 0) :: st) w := j_callVv (As := [.int x0, .int x1]) (n := 2) (ci := 1) (lw_V q368 q370 qs31 q38 q371) (by decide +kernel) rfl ⟨_, rfl⟩ rfl hk (by decide) hst hd hM kk
theorem cl2_covers {kc : Nat} {post : Int32 → Wd → Prop} (hd : decode cc pc = .ok (.invokevirtual 85, 3)) (hM : Mi (gl X) (gD X) (K2 h d) yX2_covers cX2_covers 5 kc (some .boolean) [.ref (h 0)] w post) (kk : ∀ r w', post r w' → J X (K2 h d) cc nL k (pc + 3) lv (.int r :: st) w') (hk : kc + 1 ≤ k := by decide) (hst : (st.map fun v => v.category).sum ≤ 8 := by exact Nat.le_of_ble_eq_true rfl) : J X (K2 h d) cc nL k pc lv (.ref (h 0) :: st) w := j_callVi (As := []) (n := 0) (ci := 1) (lw_V q373 q375 qs32 q38 q376) (by decide +kernel) rfl ⟨_, rfl⟩ rfl hk (by decide) hst hd hM kk
theorem cl2_within {x0 : Int32} {kc : Nat} {post : Int32 → Wd → Prop} (hd : decode cc pc = .ok (.invokevirtual 74, 3)) (hM : Mi (gl X) (gD X) (K2 h d) yX2_within cX2_within 3 kc (some .boolean) [.ref (h 0), .int x0] w post) (kk : ∀ r w', post r w' → J X (K2 h d) cc nL k (pc + 3) lv (.int r :: st) w') (hk : kc + 1 ≤ k := by decide) (hst : (st.map fun v => v.category).sum ≤ 8 := by exact Nat.le_of_ble_eq_true rfl) : J X (K2 h d) cc nL k pc lv (.int x0 :: .ref (h 0) :: st) w := j_callVi (As := [.int x0]) (n := 1) (ci := 1) (lw_V q377 q379 qs33 q38 q380) (by decide +kernel) rfl ⟨_, rfl⟩ rfl hk (by decide) hst hd hM kk
theorem cl2_advance {kc : Nat} {post : Int32 → Wd → Prop} (hd : decode cc pc = .ok (.invokevirtual 89, 3)) (hM : Mi (gl X) (gD X) (K2 h d) yX2_advance cX2_advance 4 kc (some .boolean) [.ref (h 0)] w post) (kk : ∀ r w', post r w' → J X (K2 h d) cc nL k (pc + 3) lv (.int r :: st) w') (hk : kc + 1 ≤ k := by decide) (hst : (st.map fun v => v.category).sum ≤ 8 := by exact Nat.le_of_ble_eq_true rfl) : J X (K2 h d) cc nL k pc lv (.ref (h 0) :: st) w := j_callVi (As := []) (n := 0) (ci := 1) (lw_V q381 q383 qs34 q38 q384) (by decide +kernel) rfl ⟨_, rfl⟩ rfl hk (by decide) hst hd hM kk
theorem cl2_outside {x0 : Int32} {kc : Nat} {post : Int32 → Wd → Prop} (hd : decode cc pc = .ok (.invokevirtual 95, 3)) (hM : Mi (gl X) (gD X) (K2 h d) yX2_outside cX2_outside 2 kc (some .boolean) [.ref (h 0), .int x0] w post) (kk : ∀ r w', post r w' → J X (K2 h d) cc nL k (pc + 3) lv (.int r :: st) w') (hk : kc + 1 ≤ k := by decide) (hst : (st.map fun v => v.category).sum ≤ 8 := by exact Nat.le_of_ble_eq_true rfl) : J X (K2 h d) cc nL k pc lv (.int x0 :: .ref (h 0) :: st) w := j_callVi (As := [.int x0]) (n := 1) (ci := 1) (lw_V q393 q395 qs35 q38 q396) (by decide +kernel) rfl ⟨_, rfl⟩ rfl hk (by decide) hst hd hM kk
end R2
end
section
/-! words for the state, and the small methods of FsmReducer (X1) -/
set_option maxRecDepth 100000
def inR (lo hi : Nat) (x : Int32) : Bool := decide ((lo : Int) ≤ x.toInt ∧ x.toInt < (hi : Int))
theorem inR_t {lo hi : Nat} {x : Int32} (h1 : (lo : Int) ≤ x.toInt) (h2 : x.toInt < (hi : Int)) : inR lo hi x = true := decide_eq_true ⟨h1, h2⟩
theorem inR_f {lo hi : Nat} {x : Int32} (h : x.toInt < (lo : Int) ∨ (hi : Int) ≤ x.toInt) : inR lo hi x = false := decide_eq_false (by omega)
theorem i_lt0 {x : Int32} : x < 0 ↔ x.toInt < 0 := Int32.lt_iff_toInt_lt
theorem i_ltn {x : Int32} {n : Nat} (hn : n < 2 ^ 31) : x < nI n ↔ x.toInt < (n : Int) := by rw [Int32.lt_iff_toInt_lt, nI_toInt hn]
theorem i_gtn {x : Int32} {n : Nat} (hn : n < 2 ^ 31) : nI n < x ↔ (n : Int) < x.toInt := by rw [Int32.lt_iff_toInt_lt, nI_toInt hn]
theorem i_len {x : Int32} {n : Nat} (hn : n < 2 ^ 31) : nI n ≤ x ↔ (n : Int) ≤ x.toInt := by rw [Int32.le_iff_toInt_le, nI_toInt hn]
theorem i_eqn {x : Int32} {n : Nat} (hn : n < 2 ^ 31) : x = nI n ↔ x.toInt = (n : Int) := by rw [← Int32.toInt_inj, nI_toInt hn]
theorem i_eq0 {x : Int32} : x = 0 ↔ x.toInt = 0 := by rw [← Int32.toInt_inj]; rfl
theorem inR_nI {lo hi : Nat} {x : Int32} (h : inR lo hi x = true) (hh : hi < 2 ^ 31) : ∃ j : Nat, lo ≤ j ∧ j < hi ∧ x = nI j := by
  have h := of_decide_eq_true h
  have e : ((x.toInt.toNat : Nat) : Int) = x.toInt := Int.toNat_of_nonneg (by omega)
  exact ⟨x.toInt.toNat, by omega, by omega, (i_eqn (by omega)).mpr e.symm⟩
theorem inR_of {lo hi j : Nat} (h1 : lo ≤ j) (h2 : j < hi) (hh : hi < 2 ^ 31) : inR lo hi (nI j) = true := by
  have e := nI_toInt (n := j) (by omega)
  exact inR_t (by omega) (by omega)
def no (x : Nat) : Int32 := match x with
  | 0 => -1
  | t + 1 => nI t
theorem no_sub (x : Nat) : nI x - nI 1 = no x := by
  cases x with
  | zero => decide
  | succ t => exact nI_pred t
theorem no_toInt {x : Nat} (h : x < 2 ^ 31) : (no x).toInt = (x : Int) - 1 := by
  cases x with
  | zero => decide
  | succ t =>
    show (nI t).toInt = _
    rw [nI_toInt (by omega)]
    omega
theorem no_eq {x y : Nat} (hx : x < 2 ^ 31) (hy : y < 2 ^ 31) : no x = no y ↔ x = y := by
  rw [← Int32.toInt_inj, no_toInt hx, no_toInt hy]
  omega
theorem no_m1 {x : Nat} (hx : x < 2 ^ 31) : no x = -1 ↔ x = 0 := no_eq (y := 0) hx (by decide)
def nx (E : Nat → Nat) (s a : Nat) : Nat := E (2 * s + a) / 3
def ot (E : Nat → Nat) (s a : Nat) : Nat := E (2 * s + a) % 3
def Ok1 (n : Nat) (E : Nat → Nat) (w : Wd) : Prop := 2 ≤ n ∧ n ≤ 5 ∧ (∀ k, E k < 3 * (n + 1)) ∧ (∀ k, k < 10 → w 0 k = nI (E k)) ∧ w 10 0 = nI n
theorem p2_le {n : Nat} (h : n ≤ 5) : 2 ^ n ≤ 32 := Nat.pow_le_pow_right (n := 2) (j := 5) (by decide) h
theorem p2_ge {n : Nat} (h : 2 ≤ n) : 4 ≤ 2 ^ n := Nat.pow_le_pow_right (n := 2) (j := n) (i := 2) (by decide) h
section S1
variable {l : Launch} {D : va_G} {h : Nat → Nat} {d : Nat → ClassId} {w : Wd} {n : Nat} {E : Nat → Nat}
set_option maxHeartbeats 1000000 in
theorem m1_isState (ok : Ok1 n E w) (x : Int32) : Mi l D (K1 h d) yX1_isState cX1_isState 2 0 (some .boolean) [.ref (h 0), .int x] w (fun r w' => w = w' ∧ r = bI (inR 0 n x)) := by
  obtain ⟨h2, h5, hE3, hE, hn⟩ := ok
  refine Mi.of (by decide) rfl (by simp [Value.category]) (Nat.le_of_ble_eq_true rfl) (fun X R => ?_)
  refine j_il1n (pc := 0) dX1_isState_0 ?_
  refine j_if_lt (pc := 1) 16 dX1_isState_1 (by decide) (fun c => ?_) (fun c => ?_)
  · refine j_iconst (pc := 16) (nI 0) dX1_isState_16 (by decide) ?_
    exact j_zret R dX1_isState_17 false (by first | rfl | decide) (⟨rfl, by rw [inR_f (Or.inl (i_lt0.mp c))]⟩)
  · refine j_il1n (pc := 4) dX1_isState_4 ?_
    refine j_al0n (pc := 5) dX1_isState_5 ?_
    refine g1_n (pc := 6) dX1_isState_6 (by first | assumption | rfl) ?_
    refine j_icmp_ge (pc := 9) 16 dX1_isState_9 (by decide) (fun c2 => ?_) (fun c2 => ?_)
    · refine j_iconst (pc := 16) (nI 0) dX1_isState_16 (by decide) ?_
      exact j_zret R dX1_isState_17 false (by first | rfl | decide) (⟨rfl, by rw [inR_f (Or.inr ((i_len (by omega)).mp c2))]⟩)
    · refine j_iconst (pc := 12) (nI 1) dX1_isState_12 (by decide) ?_
      refine j_goto (pc := 13) 17 dX1_isState_13 (by decide) ?_
      rw [i_lt0] at c
      rw [i_len (by omega)] at c2
      exact j_zret R dX1_isState_17 true (by first | rfl | decide) (⟨rfl, by rw [inR_t (by omega) (by omega)]⟩)
set_option maxHeartbeats 1000000 in
theorem m1_isInput (x : Int32) : Mi l D (K1 h d) yX1_isInput cX1_isInput 1 0 (some .boolean) [.int x] w (fun r w' => w = w' ∧ r = bI (inR 0 2 x)) := by
  refine Mi.of (by decide) rfl (by simp [Value.category]) (Nat.le_of_ble_eq_true rfl) (fun X R => ?_)
  refine j_il0n (pc := 0) dX1_isInput_0 ?_
  refine j_if_eq (pc := 1) 9 dX1_isInput_1 (by decide) (fun c => ?_) (fun c => ?_)
  · rw [i_eq0] at c
    refine j_iconst (pc := 9) (nI 1) dX1_isInput_9 (by decide) ?_
    refine j_goto (pc := 10) 14 dX1_isInput_10 (by decide) ?_
    exact j_zret R dX1_isInput_14 true (by first | rfl | decide) (⟨rfl, by rw [inR_t (by omega) (by omega)]⟩)
  · refine j_il0n (pc := 4) dX1_isInput_4 ?_
    refine j_iconst (pc := 5) (nI 1) dX1_isInput_5 (by decide) ?_
    rw [i_eq0] at c
    refine j_icmp_ne (pc := 6) 13 dX1_isInput_6 (by decide) (fun c2 => ?_) (fun c2 => ?_)
    · rw [i_eqn (by omega)] at c2
      refine j_iconst (pc := 13) (nI 0) dX1_isInput_13 (by decide) ?_
      exact j_zret R dX1_isInput_14 false (by first | rfl | decide) (⟨rfl, by rw [inR_f (by omega)]⟩)
    · rw [i_eqn (by omega)] at c2
      refine j_iconst (pc := 9) (nI 1) dX1_isInput_9 (by decide) ?_
      refine j_goto (pc := 10) 14 dX1_isInput_10 (by decide) ?_
      exact j_zret R dX1_isInput_14 true (by first | rfl | decide) (⟨rfl, by rw [inR_t (by omega) (by omega)]⟩)
set_option maxHeartbeats 1000000 in
theorem m1_isSet (ok : Ok1 n E w) (x : Int32) : Mi l D (K1 h d) yX1_isSet cX1_isSet 2 0 (some .boolean) [.ref (h 0), .int x] w (fun r w' => w = w' ∧ r = bI (inR 1 (2 ^ n) x)) := by
  obtain ⟨h2, h5, hE3, hE, hn⟩ := ok
  have hp := p2_le h5
  refine Mi.of (by decide) rfl (by simp [Value.category]) (Nat.le_of_ble_eq_true rfl) (fun X R => ?_)
  refine j_il1n (pc := 0) dX1_isSet_0 ?_
  refine j_iconst (pc := 1) (nI 1) dX1_isSet_1 (by decide) ?_
  refine j_icmp_lt (pc := 2) 19 dX1_isSet_2 (by decide) (fun c => ?_) (fun c => ?_)
  · rw [i_ltn (by omega)] at c
    refine j_iconst (pc := 19) (nI 0) dX1_isSet_19 (by decide) ?_
    exact j_zret R dX1_isSet_20 false (by first | rfl | decide) (⟨rfl, by rw [inR_f (by omega)]⟩)
  · rw [i_ltn (by omega)] at c
    refine j_il1n (pc := 5) dX1_isSet_5 ?_
    refine j_iconst (pc := 6) (nI 1) dX1_isSet_6 (by decide) ?_
    refine j_al0n (pc := 7) dX1_isSet_7 ?_
    refine g1_n (pc := 8) dX1_isSet_8 (by first | assumption | rfl) ?_
    refine j_ishl1 (pc := 11) dX1_isSet_11 (by omega) ?_
    refine j_icmp_ge (pc := 12) 19 dX1_isSet_12 (by decide) (fun c2 => ?_) (fun c2 => ?_)
    · rw [i_len (by omega)] at c2
      refine j_iconst (pc := 19) (nI 0) dX1_isSet_19 (by decide) ?_
      exact j_zret R dX1_isSet_20 false (by first | rfl | decide) (⟨rfl, by rw [inR_f (by omega)]⟩)
    · rw [i_len (by omega)] at c2
      refine j_iconst (pc := 15) (nI 1) dX1_isSet_15 (by decide) ?_
      refine j_goto (pc := 16) 20 dX1_isSet_16 (by decide) ?_
      exact j_zret R dX1_isSet_20 true (by first | rfl | decide) (⟨rfl, by rw [inR_t (by omega) (by omega)]⟩)
set_option maxHeartbeats 1000000 in
theorem m1_next (ok : Ok1 n E w) {s a : Nat} (hs : s < 5) (ha : a < 2) : Mi l D (K1 h d) yX1_next cX1_next 3 0 (some .int) [.ref (h 0), .int (nI s), .int (nI a)] w (fun r w' => w = w' ∧ r = no (nx E s a)) := by
  obtain ⟨h2, h5, hE3, hE, hn⟩ := ok
  have hb := hE3 (2 * s + a)
  refine Mi.of (by decide) rfl (by simp [Value.category]) (Nat.le_of_ble_eq_true rfl) (fun X R => ?_)
  refine j_al0n (pc := 0) dX1_next_0 ?_
  refine g1_entries (pc := 1) dX1_next_1 ?_
  refine j_iconst (pc := 4) (nI 2) dX1_next_4 (by decide) ?_
  refine j_il1n (pc := 5) dX1_next_5 ?_
  first | with_reducible refine j_imulN (pc := 6) dX1_next_6 ?_ | refine j_imul (pc := 6) dX1_next_6 ?_
  refine j_il2n (pc := 7) dX1_next_7 ?_
  first | with_reducible refine j_iaddN (pc := 8) dX1_next_8 ?_ | refine j_iadd (pc := 8) dX1_next_8 ?_
  refine al1_entries (pc := 9) dX1_next_9 (by omega) (hE _ (by omega)) ?_
  refine j_iconst (pc := 10) (nI 3) dX1_next_10 (by decide) ?_
  refine j_idivN (pc := 11) dX1_next_11 (by omega) (by omega) (by omega) ?_
  refine j_iconst (pc := 12) (nI 1) dX1_next_12 (by decide) ?_
  refine j_isub (pc := 13) dX1_next_13 ?_
  exact j_iret R dX1_next_14 (⟨rfl, no_sub _⟩)
set_option maxHeartbeats 1000000 in
theorem m1_output (ok : Ok1 n E w) {s a : Nat} (hs : s < 5) (ha : a < 2) : Mi l D (K1 h d) yX1_output cX1_output 3 0 (some .int) [.ref (h 0), .int (nI s), .int (nI a)] w (fun r w' => w = w' ∧ r = no (ot E s a)) := by
  obtain ⟨h2, h5, hE3, hE, hn⟩ := ok
  have hb := hE3 (2 * s + a)
  refine Mi.of (by decide) rfl (by simp [Value.category]) (Nat.le_of_ble_eq_true rfl) (fun X R => ?_)
  refine j_al0n (pc := 0) dX1_output_0 ?_
  refine g1_entries (pc := 1) dX1_output_1 ?_
  refine j_iconst (pc := 4) (nI 2) dX1_output_4 (by decide) ?_
  refine j_il1n (pc := 5) dX1_output_5 ?_
  first | with_reducible refine j_imulN (pc := 6) dX1_output_6 ?_ | refine j_imul (pc := 6) dX1_output_6 ?_
  refine j_il2n (pc := 7) dX1_output_7 ?_
  first | with_reducible refine j_iaddN (pc := 8) dX1_output_8 ?_ | refine j_iadd (pc := 8) dX1_output_8 ?_
  refine al1_entries (pc := 9) dX1_output_9 (by omega) (hE _ (by omega)) ?_
  refine j_iconst (pc := 10) (nI 3) dX1_output_10 (by decide) ?_
  refine j_iremN (pc := 11) dX1_output_11 (by omega) (by omega) (by omega) ?_
  refine j_iconst (pc := 12) (nI 1) dX1_output_12 (by decide) ?_
  refine j_isub (pc := 13) dX1_output_13 ?_
  exact j_iret R dX1_output_14 (⟨rfl, no_sub _⟩)
set_option maxHeartbeats 1000000 in
theorem m1_states (ok : Ok1 n E w) : Mi l D (K1 h d) yX1_states cX1_states 1 0 (some .int) [.ref (h 0)] w (fun r w' => w = w' ∧ r = nI n) := by
  obtain ⟨h2, h5, hE3, hE, hn⟩ := ok
  refine Mi.of (by decide) rfl (by simp [Value.category]) (Nat.le_of_ble_eq_true rfl) (fun X R => ?_)
  refine j_al0n (pc := 0) dX1_states_0 ?_
  refine g1_n (pc := 1) dX1_states_1 (by first | assumption | rfl) ?_
  exact j_iret R dX1_states_4 (⟨rfl, rfl⟩)
end S1
end
section
/-! levels of pairs: the pure words, and splits, levelPairs, holdsTogether of X1 -/
set_option maxRecDepth 100000
def dif (E : Nat → Nat) (s t a : Nat) : Bool := ot E s a != 0 && ot E t a != 0 && ot E s a != ot E t a
def stp (E : Nat → Nat) (f : Nat → Nat → Bool) (s t a : Nat) : Bool := nx E s a != 0 && nx E t a != 0 && f (nx E s a - 1) (nx E t a - 1)
def sp (E : Nat → Nat) : Nat → Nat → Nat → Bool
  | 0, _, _ => false
  | 1, s, t => dif E s t 0 || dif E s t 1
  | L + 2, s, t => stp E (sp E (L + 1)) s t 0 || stp E (sp E (L + 1)) s t 1
def spa (E : Nat → Nat) (L s t a : Nat) : Bool := match L with
  | 0 => false
  | 1 => dif E s t a
  | L + 2 => stp E (sp E (L + 1)) s t a
theorem sp_spa (E : Nat → Nat) (L s t : Nat) : sp E L s t = (spa E L s t 0 || spa E L s t 1) := by
  match L with
  | 0 => rfl
  | 1 => rfl
  | L + 2 => rfl
def lvl (E : Nat → Nat) : Nat → Nat → Nat → Nat
  | 0, _, _ => 1000
  | k + 1, s, t => if lvl E k s t = 1000 ∧ sp E (k + 1) s t = true then k + 1 else lvl E k s t
theorem lvl_or (E : Nat → Nat) (k s t : Nat) : lvl E k s t = 1000 ∨ (1 ≤ lvl E k s t ∧ lvl E k s t ≤ k) := by
  induction k with
  | zero => exact Or.inl rfl
  | succ k ih =>
    rw [lvl]
    split
    · exact Or.inr ⟨by omega, by omega⟩
    · rcases ih with h | h
      · exact Or.inl h
      · exact Or.inr ⟨h.1, by omega⟩
theorem lvl_le (E : Nat → Nat) {k : Nat} (hk : k ≤ 25) (s t : Nat) : lvl E k s t ≤ 1000 := by
  rcases lvl_or E k s t with h | h <;> omega
/-- no word of length up to k splits -/
theorem lvl_far (E : Nat → Nat) {k s t : Nat} (hk : k ≤ 25) : lvl E k s t = 1000 ↔ ∀ j, j ≤ k → sp E j s t = false := by
  induction k with
  | zero =>
    refine ⟨fun _ j hj => ?_, fun _ => rfl⟩
    have e : j = 0 := by omega
    subst e
    rfl
  | succ k ih =>
    have ih := ih (by omega)
    rw [lvl]
    split
    · rename_i h
      refine ⟨fun e => by omega, fun e => ?_⟩
      rw [e (k + 1) (Nat.le_refl _)] at h
      exact absurd h.2 (by decide)
    · rename_i h
      refine ⟨fun e j hj => ?_, fun e => ih.mpr (fun j hj => e j (by omega))⟩
      rcases Nat.lt_or_ge k j with q | q
      · have ej : j = k + 1 := by omega
        subst ej
        cases hb : sp E (k + 1) s t with
        | false => rfl
        | true => exact absurd ⟨e, hb⟩ h
      · exact ih.mp e j q
/-- a level k + 1 is one that a word of that length reaches first -/
theorem lvl_eq (E : Nat → Nat) {k j s t : Nat} (hk : k ≤ 25) (hj : 1 ≤ j) (hj2 : j ≤ k) : lvl E k s t = j ↔ (sp E j s t = true ∧ ∀ i, i < j → sp E i s t = false) := by
  induction k with
  | zero => omega
  | succ k ih =>
    have ih := ih (by omega)
    rw [lvl]
    split
    · rename_i h
      have hf := (lvl_far E (by omega)).mp h.1
      constructor
      · intro e
        subst e
        exact ⟨h.2, fun i hi => hf i (by omega)⟩
      · intro e
        rcases Nat.lt_or_ge k j with q | q
        · omega
        · rw [hf j q] at e
          exact absurd e.1 (by decide)
    · rename_i h
      rcases Nat.lt_or_ge k j with q | q
      · have ej : j = k + 1 := by omega
        subst ej
        constructor
        · intro e
          rcases lvl_or E k s t with o | o <;> omega
        · intro e
          have hf : lvl E k s t = 1000 := (lvl_far E (by omega)).mpr (fun i hi => e.2 i (by omega))
          exact absurd ⟨hf, e.1⟩ h
      · exact ih q
theorem stp_congr {E : Nat → Nat} {f g : Nat → Nat → Bool} {s t a : Nat} (h : nx E s a ≠ 0 → nx E t a ≠ 0 → f (nx E s a - 1) (nx E t a - 1) = g (nx E s a - 1) (nx E t a - 1)) : stp E f s t a = stp E g s t a := by
  unfold stp
  by_cases h1 : nx E s a = 0
  · simp [h1]
  · by_cases h2 : nx E t a = 0
    · simp [h2]
    · simp [h1, h2, h h1 h2]
theorem sp_step {E : Nat → Nat} {L s t a : Nat} (hL : 1 ≤ L) (ha : a < 2) (h : stp E (sp E L) s t a = true) : sp E (L + 1) s t = true := by
  obtain ⟨L, rfl⟩ : ∃ m, L = m + 1 := ⟨L - 1, by omega⟩
  rw [sp_spa]
  rcases (show a = 0 ∨ a = 1 by omega) with rfl | rfl
  · simp [spa, h]
  · simp [spa, h]
/-- what splits asks of the levels below -/
theorem spa_lvl {E : Nat → Nat} {k s t a : Nat} (hk : k ≤ 24) (ha : a < 2) (hf : lvl E k s t = 1000) : (if k + 1 = 1 then dif E s t a else stp E (fun p q => decide (lvl E k p q = k + 1 - 1)) s t a) = spa E (k + 1) s t a := by
  match k, hk, hf with
  | 0, _, _ => rfl
  | k + 1, hk, hf =>
    rw [if_neg (by omega)]
    show _ = stp E (sp E (k + 1)) s t a
    apply stp_congr
    intro h1 h2
    have hf := (lvl_far E (by omega)).mp hf
    have key : lvl E (k + 1) (nx E s a - 1) (nx E t a - 1) = k + 1 ↔ sp E (k + 1) (nx E s a - 1) (nx E t a - 1) = true := by
      rw [lvl_eq E (by omega) (by omega) (by omega)]
      refine ⟨fun h => h.1, fun h => ⟨h, fun i hi => ?_⟩⟩
      rcases Nat.eq_zero_or_pos i with rfl | hi0
      · rfl
      · cases hb : sp E i (nx E s a - 1) (nx E t a - 1) with
        | false => rfl
        | true =>
          have : sp E (i + 1) s t = true := sp_step hi0 ha (by unfold stp; simp [h1, h2, hb])
          rw [hf (i + 1) (by omega)] at this
          exact absurd this (by decide)
    simp only [show k + 1 + 1 - 1 = k + 1 from by omega]
    cases hb : sp E (k + 1) (nx E s a - 1) (nx E t a - 1) with
    | false => exact decide_eq_false (fun e => by rw [key.mp e] at hb; exact absurd hb (by decide))
    | true => exact decide_eq_true (key.mpr hb)
theorem bit_iff (c s : Nat) : c / 2 ^ s &&& 1 = 1 ↔ c.testBit s = true := by
  rw [Nat.and_one_is_mod, Nat.testBit_eq_decide_div_mod_eq]
  simp
theorem nx_le {n : Nat} {E : Nat → Nat} (hE : ∀ k, E k < 3 * (n + 1)) (s a : Nat) : nx E s a ≤ n := by
  have := hE (2 * s + a)
  unfold nx
  omega
theorem ot_lt (E : Nat → Nat) (s a : Nat) : ot E s a < 3 := by
  unfold ot
  omega
section S1
variable {l : Launch} {D : va_G} {h : Nat → Nat} {d : Nat → ClassId} {w : Wd} {n : Nat} {E : Nat → Nat}
set_option maxHeartbeats 1000000 in
theorem m1_splits (ok : Ok1 n E w) {s t a L : Nat} (hs : s < n) (ht : t < n) (ha : a < 2) (hL : 1 ≤ L) (hL2 : L < 1000) : Mi l D (K1 h d) yX1_splits cX1_splits 7 1 (some .boolean) [.ref (h 0), .int (nI s), .int (nI t), .int (nI a), .int (nI L)] w (fun r w' => w = w' ∧ r = bI (if L = 1 then dif E s t a else stp E (fun p q => decide (w 1 (5 * p + q) = nI (L - 1))) s t a)) := by
  have ok' := ok
  obtain ⟨h2, h5, hE3, hE, hn⟩ := ok
  have o1 := ot_lt E s a
  have o2 := ot_lt E t a
  have b1 := nx_le hE3 s a
  have b2 := nx_le hE3 t a
  refine Mi.of (by decide) rfl (by simp [Value.category]) (Nat.le_of_ble_eq_true rfl) (fun X R => ?_)
  refine j_il4 (pc := 0) dX1_splits_0 ?_
  refine j_iconst (pc := 2) (nI 1) dX1_splits_2 (by decide) ?_
  refine j_icmp_neN (pc := 3) 47 dX1_splits_3 (by decide) (by omega) (by omega) (fun c => ?_) (fun c => ?_)
  · refine j_al0n (pc := 47) dX1_splits_47 ?_
    refine j_il1n (pc := 48) dX1_splits_48 ?_
    refine j_il3n (pc := 49) dX1_splits_49 ?_
    refine cl1_next (pc := 50) dX1_splits_50 (m1_next ok' (by omega) ha) (fun r w' e => ?_)
    obtain ⟨rfl, rfl⟩ := e
    first | refine j_st5_s (pc := 53) dX1_splits_53 ?_ | refine j_st5_a (pc := 53) dX1_splits_53 ?_
    refine j_al0n (pc := 55) dX1_splits_55 ?_
    refine j_il2n (pc := 56) dX1_splits_56 ?_
    refine j_il3n (pc := 57) dX1_splits_57 ?_
    refine cl1_next (pc := 58) dX1_splits_58 (m1_next ok' (by omega) ha) (fun r w' e => ?_)
    obtain ⟨rfl, rfl⟩ := e
    rw [if_neg c] at R
    first | refine j_st6_s (pc := 61) dX1_splits_61 ?_ | refine j_st6_a (pc := 61) dX1_splits_61 ?_
    refine j_il5 (pc := 63) dX1_splits_63 ?_
    refine j_iconst (pc := 65) (-1) dX1_splits_65 (by decide) ?_
    refine j_icmp_eq (pc := 66) 98 dX1_splits_66 (by decide) (fun c1 => ?_) (fun c1 => ?_)
    · rw [no_m1 (by omega)] at c1
      refine j_iconst (pc := 98) (nI 0) dX1_splits_98 (by decide) ?_
      exact j_zret R dX1_splits_99 false (by first | rfl | decide) (⟨rfl, by rw [stp, c1]; rfl⟩)
    · rw [no_m1 (by omega)] at c1
      refine j_il6 (pc := 69) dX1_splits_69 ?_
      refine j_iconst (pc := 71) (-1) dX1_splits_71 (by decide) ?_
      refine j_icmp_eq (pc := 72) 98 dX1_splits_72 (by decide) (fun c2 => ?_) (fun c2 => ?_)
      · rw [no_m1 (by omega)] at c2
        refine j_iconst (pc := 98) (nI 0) dX1_splits_98 (by decide) ?_
        exact j_zret R dX1_splits_99 false (by first | rfl | decide) (⟨rfl, by rw [stp, c2]; simp⟩)
      · rw [no_m1 (by omega)] at c2
        obtain ⟨p, hp⟩ : ∃ p, nx E s a = p + 1 := ⟨nx E s a - 1, by omega⟩
        obtain ⟨q, hq⟩ : ∃ q, nx E t a = q + 1 := ⟨nx E t a - 1, by omega⟩
        rw [stp, hp, hq] at R
        rw [hp, hq]
        simp only [no]
        refine j_al0n (pc := 75) dX1_splits_75 ?_
        refine g1_level (pc := 76) dX1_splits_76 ?_
        refine j_iconst (pc := 79) (nI 5) dX1_splits_79 (by decide) ?_
        refine j_il5 (pc := 80) dX1_splits_80 ?_
        first | with_reducible refine j_imulN (pc := 82) dX1_splits_82 ?_ | refine j_imul (pc := 82) dX1_splits_82 ?_
        refine j_il6 (pc := 83) dX1_splits_83 ?_
        first | with_reducible refine j_iaddN (pc := 85) dX1_splits_85 ?_ | refine j_iadd (pc := 85) dX1_splits_85 ?_
        refine al1_level (pc := 86) dX1_splits_86 (by omega) (rfl) ?_
        refine j_il4 (pc := 87) dX1_splits_87 ?_
        refine j_iconst (pc := 89) (nI 1) dX1_splits_89 (by decide) ?_
        first | with_reducible refine j_isubN (pc := 90) dX1_splits_90 (by omega) ?_ | refine j_isub (pc := 90) dX1_splits_90 ?_
        refine j_icmp_ne (pc := 91) 98 dX1_splits_91 (by decide) (fun c3 => ?_) (fun c3 => ?_)
        · refine j_iconst (pc := 98) (nI 0) dX1_splits_98 (by decide) ?_
          exact j_zret R dX1_splits_99 false (by first | rfl | decide) (⟨rfl, by simp [c3]⟩)
        · refine j_iconst (pc := 94) (nI 1) dX1_splits_94 (by decide) ?_
          refine j_goto (pc := 95) 99 dX1_splits_95 (by decide) ?_
          exact j_zret R dX1_splits_99 true (by first | rfl | decide) (⟨rfl, by simp [c3]⟩)
  · refine j_al0n (pc := 6) dX1_splits_6 ?_
    refine j_il1n (pc := 7) dX1_splits_7 ?_
    refine j_il3n (pc := 8) dX1_splits_8 ?_
    refine cl1_output (pc := 9) dX1_splits_9 (m1_output ok' (by omega) ha) (fun r w' e => ?_)
    obtain ⟨rfl, rfl⟩ := e
    first | refine j_st5_s (pc := 12) dX1_splits_12 ?_ | refine j_st5_a (pc := 12) dX1_splits_12 ?_
    refine j_al0n (pc := 14) dX1_splits_14 ?_
    refine j_il2n (pc := 15) dX1_splits_15 ?_
    refine j_il3n (pc := 16) dX1_splits_16 ?_
    refine cl1_output (pc := 17) dX1_splits_17 (m1_output ok' (by omega) ha) (fun r w' e => ?_)
    obtain ⟨rfl, rfl⟩ := e
    rw [if_pos c] at R
    first | refine j_st6_s (pc := 20) dX1_splits_20 ?_ | refine j_st6_a (pc := 20) dX1_splits_20 ?_
    refine j_il5 (pc := 22) dX1_splits_22 ?_
    refine j_iconst (pc := 24) (-1) dX1_splits_24 (by decide) ?_
    refine j_icmp_eq (pc := 25) 45 dX1_splits_25 (by decide) (fun c1 => ?_) (fun c1 => ?_)
    · rw [no_m1 (by omega)] at c1
      refine j_iconst (pc := 45) (nI 0) dX1_splits_45 (by decide) ?_
      exact j_zret R dX1_splits_46 false (by first | rfl | decide) (⟨rfl, by rw [dif, c1]; rfl⟩)
    · rw [no_m1 (by omega)] at c1
      refine j_il6 (pc := 28) dX1_splits_28 ?_
      refine j_iconst (pc := 30) (-1) dX1_splits_30 (by decide) ?_
      refine j_icmp_eq (pc := 31) 45 dX1_splits_31 (by decide) (fun c2 => ?_) (fun c2 => ?_)
      · rw [no_m1 (by omega)] at c2
        refine j_iconst (pc := 45) (nI 0) dX1_splits_45 (by decide) ?_
        exact j_zret R dX1_splits_46 false (by first | rfl | decide) (⟨rfl, by rw [dif, c2]; simp⟩)
      · rw [no_m1 (by omega)] at c2
        refine j_il5 (pc := 34) dX1_splits_34 ?_
        refine j_il6 (pc := 36) dX1_splits_36 ?_
        refine j_icmp_eq (pc := 38) 45 dX1_splits_38 (by decide) (fun c3 => ?_) (fun c3 => ?_)
        · rw [no_eq (by omega) (by omega)] at c3
          refine j_iconst (pc := 45) (nI 0) dX1_splits_45 (by decide) ?_
          exact j_zret R dX1_splits_46 false (by first | rfl | decide) (⟨rfl, by rw [dif, c3]; simp⟩)
        · rw [no_eq (by omega) (by omega)] at c3
          refine j_iconst (pc := 41) (nI 1) dX1_splits_41 (by decide) ?_
          refine j_goto (pc := 42) 46 dX1_splits_42 (by decide) ?_
          exact j_zret R dX1_splits_46 true (by first | rfl | decide) (⟨rfl, by have e : dif E s t a = true := (by simp [dif, c1, c2, c3]); rw [e]⟩)
end S1
end
section
/-! levelPairs, holdsTogether, image, firstWith, sharedOutput, inOne of X1 -/
set_option maxRecDepth 100000
theorem Ok1.fr {n : Nat} {E : Nat → Nat} {w w' : Wd} (ok : Ok1 n E w) (h0 : w' 0 = w 0) (h1 : w' 10 0 = w 10 0) : Ok1 n E w' := by
  obtain ⟨h2, h5, hE3, hE, hn⟩ := ok
  exact ⟨h2, h5, hE3, fun k hk => by rw [h0]; exact hE k hk, by rw [h1]; exact hn⟩
theorem pair_lt {n s t : Nat} (hs : s < n) (ht : t < n) : s * n + t < n * n := by
  have h1 : (s + 1) * n ≤ n * n := Nat.mul_le_mul_right n hs
  rw [Nat.add_mul, Nat.one_mul] at h1
  omega
theorem pair_eq {n s t i : Nat} (ht : t < n) (h : s * n + t = i) : s = i / n ∧ t = i % n := by
  subst h
  constructor
  · rw [Nat.mul_comm, Nat.mul_add_div (by omega), Nat.div_eq_of_lt ht]
    rfl
  · rw [Nat.mul_comm, Nat.mul_add_mod, Nat.mod_eq_of_lt ht]
theorem nn_le {n : Nat} (h : n ≤ 5) : n * n ≤ 25 := Nat.mul_le_mul h h
theorem lvl_mix {E : Nat → Nat} {k p q : Nat} (hk : 1 ≤ k) (hk2 : k ≤ 24) : lvl E (k + 1) p q = k ↔ lvl E k p q = k := by
  rw [lvl_eq E (by omega) hk (by omega), lvl_eq E (by omega) hk (by omega)]
theorem lvl_same {E : Nat → Nat} {k s t : Nat} (h : ¬ (lvl E k s t = 1000 ∧ sp E (k + 1) s t = true)) : lvl E (k + 1) s t = lvl E k s t := by
  rw [lvl, if_neg h]
theorem lvl_new {E : Nat → Nat} {k s t : Nat} (h1 : lvl E k s t = 1000) (h2 : sp E (k + 1) s t = true) : lvl E (k + 1) s t = k + 1 := by
  rw [lvl, if_pos ⟨h1, h2⟩]
def hold (n : Nat) (lv : Nat → Nat → Nat) (c : Nat) : Bool := decide (∀ s, s < n → ∀ t, t < n → c.testBit s = true → c.testBit t = true → lv s t = 1000)
def imN (E : Nat → Nat) (c a : Nat) : Nat → Nat
  | 0 => 0
  | s + 1 => if c.testBit s = true ∧ nx E s a ≠ 0 then imN E c a s ||| 2 ^ (nx E s a - 1) else imN E c a s
def fwF (cv : Nat → Nat) (set : Nat) : Nat → Nat → Nat
  | 0, _ => 0
  | m + 1, i => if set &&& cv i = set then i + 1 else fwF cv set m (i + 1)
def soF (E : Nat → Nat) (c a : Nat) : Nat → Nat → Nat
  | 0, _ => 0
  | m + 1, s => if c.testBit s = true ∧ ot E s a ≠ 0 then ot E s a else soF E c a m (s + 1)
section S1
variable {l : Launch} {D : va_G} {h : Nat → Nat} {d : Nat → ClassId} {w : Wd} {n : Nat} {E : Nat → Nat}
set_option maxHeartbeats 4000000 in
theorem m1_levelPairs (ok : Ok1 n E w) : Mv l D (K1 h d) yX1_levelPairs cX1_levelPairs 5 2 [.ref (h 0)] w (fun w' => (∀ q, q ≠ 1 → w' q = w q) ∧ ∀ s t, s < n → t < n → w' 1 (5 * s + t) = nI (lvl E 25 s t)) := by
  have ok' := ok
  obtain ⟨h2, h5, hE3, hE, hn⟩ := ok
  have hnn := nn_le h5
  refine Mv.of (by decide) rfl (by simp [Value.category]) (Nat.le_of_ble_eq_true rfl) (fun X R => ?_)
  have out : ∀ m k w1, k + m = 25 → (∀ q, q ≠ 1 → w1 q = w q) → (∀ s t, s < n → t < n → w1 1 (5 * s + t) = nI (lvl E k s t)) → J X (K1 h d) cX1_levelPairs 5 2 25 [.ref (h 0), .int (nI (k + 1))] [] w1 := by
    intro m
    induction m with
    | zero =>
      intro k w1 hk hf hv
      refine j_il1n (pc := 25) dX1_levelPairs_25 ?_
      refine j_bipush (pc := 26) (nI 25) dX1_levelPairs_26 (by decide) ?_
      refine j_icmp_gtN (pc := 28) 126 dX1_levelPairs_28 (by decide) (by omega) (by omega) (fun c => ?_) (fun c => ?_)
      · obtain rfl : k = 25 := by omega
        exact j_vret R dX1_levelPairs_126 (⟨hf, hv⟩)
      · omega
    | succ m ih =>
      intro k w1 hk hf hv
      refine j_il1n (pc := 25) dX1_levelPairs_25 ?_
      refine j_bipush (pc := 26) (nI 25) dX1_levelPairs_26 (by decide) ?_
      refine j_icmp_gtN (pc := 28) 126 dX1_levelPairs_28 (by decide) (by omega) (by omega) (fun c => ?_) (fun c => ?_)
      · omega
      refine j_iconst (pc := 31) (nI 0) dX1_levelPairs_31 (by decide) ?_
      first | refine j_st2n_s (pc := 32) dX1_levelPairs_32 ?_ | refine j_st2n_a (pc := 32) dX1_levelPairs_32 ?_
      have inn : ∀ m2 i w2, i + m2 = n * n → (∀ q, q ≠ 1 → w2 q = w q) → (∀ s t, s < n → t < n → w2 1 (5 * s + t) = nI (lvl E (if s * n + t < i then k + 1 else k) s t)) → J X (K1 h d) cX1_levelPairs 5 2 33 [.ref (h 0), .int (nI (k + 1)), .int (nI i)] [] w2 := by
        intro m2
        induction m2 with
        | zero =>
          intro i w2 hi hf hv
          have hn2 : w2 10 0 = nI n := by rw [hf 10 (by decide)]; exact hn
          refine j_il2n (pc := 33) dX1_levelPairs_33 ?_
          refine j_al0n (pc := 34) dX1_levelPairs_34 ?_
          refine g1_n (pc := 35) dX1_levelPairs_35 (by first | assumption | rfl) ?_
          refine j_al0n (pc := 38) dX1_levelPairs_38 ?_
          refine g1_n (pc := 39) dX1_levelPairs_39 (by first | assumption | rfl) ?_
          first | with_reducible refine j_imulN (pc := 42) dX1_levelPairs_42 ?_ | refine j_imul (pc := 42) dX1_levelPairs_42 ?_
          refine j_icmp_geN (pc := 43) 120 dX1_levelPairs_43 (by decide) (by omega) (by omega) (fun c2 => ?_) (fun c2 => ?_)
          · refine j_inc1N (pc := 120) dX1_levelPairs_120 ?_
            refine j_goto (pc := 123) 25 dX1_levelPairs_123 (by decide) ?_
            refine j_wk (ih (k + 1) w2 (by omega) hf (fun s t hs ht => ?_)) ⟨_, rfl⟩
            rw [hv s t hs ht, if_pos (by have := pair_lt hs ht; omega)]
          · omega
        | succ m2 ih2 =>
          intro i w2 hi hf hv
          have hn2 : w2 10 0 = nI n := by rw [hf 10 (by decide)]; exact hn
          have ok2 : Ok1 n E w2 := ok'.fr (hf 0 (by decide)) (by rw [hf 10 (by decide)])
          have hs : i / n < n := Nat.div_lt_of_lt_mul (by omega)
          have ht : i % n < n := Nat.mod_lt _ (by omega)
          have hst : (i / n) * n + i % n = i := by rw [Nat.mul_comm]; exact Nat.div_add_mod i n
          have hvi : w2 1 (5 * (i / n) + i % n) = nI (lvl E k (i / n) (i % n)) := by rw [hv _ _ hs ht, if_neg (by omega)]
          have hle := lvl_le E (k := k) (by omega) (i / n) (i % n)
          have nxt : ∀ w3, (∀ q, q ≠ 1 → w3 q = w q) → (∀ s t, s < n → t < n → w3 1 (5 * s + t) = nI (lvl E (if s * n + t < i + 1 then k + 1 else k) s t)) → J X (K1 h d) cX1_levelPairs 5 2 114 [.ref (h 0), .int (nI (k + 1)), .int (nI i), .int (nI (i / n)), .int (nI (i % n))] [] w3 := by
            intro w3 hf3 hv3
            refine j_inc2N (pc := 114) dX1_levelPairs_114 ?_
            refine j_goto (pc := 117) 33 dX1_levelPairs_117 (by decide) ?_
            exact j_wk (ih2 (i + 1) w3 (by omega) hf3 hv3) ⟨_, rfl⟩
          have keep : ¬ (lvl E k (i / n) (i % n) = 1000 ∧ sp E (k + 1) (i / n) (i % n) = true) → ∀ s t, s < n → t < n → w2 1 (5 * s + t) = nI (lvl E (if s * n + t < i + 1 then k + 1 else k) s t) := by
            intro hno s t hs' ht'
            rw [hv s t hs' ht']
            by_cases e : s * n + t < i
            · rw [if_pos e, if_pos (by omega)]
            · rw [if_neg e]
              by_cases e2 : s * n + t < i + 1
              · rw [if_pos e2]
                obtain ⟨rfl, rfl⟩ := pair_eq ht' (show s * n + t = i by omega)
                rw [lvl_same hno]
              · rw [if_neg e2]
          have store : lvl E k (i / n) (i % n) = 1000 → sp E (k + 1) (i / n) (i % n) = true → J X (K1 h d) cX1_levelPairs 5 2 102 [.ref (h 0), .int (nI (k + 1)), .int (nI i), .int (nI (i / n)), .int (nI (i % n))] [] w2 := by
            intro e1 e2
            refine j_al0n (pc := 102) dX1_levelPairs_102 ?_
            refine g1_level (pc := 103) dX1_levelPairs_103 ?_
            refine j_iconst (pc := 106) (nI 5) dX1_levelPairs_106 (by decide) ?_
            refine j_il3n (pc := 107) dX1_levelPairs_107 ?_
            first | with_reducible refine j_imulN (pc := 108) dX1_levelPairs_108 ?_ | refine j_imul (pc := 108) dX1_levelPairs_108 ?_
            refine j_il4 (pc := 109) dX1_levelPairs_109 ?_
            first | with_reducible refine j_iaddN (pc := 111) dX1_levelPairs_111 ?_ | refine j_iadd (pc := 111) dX1_levelPairs_111 ?_
            refine j_il1n (pc := 112) dX1_levelPairs_112 ?_
            refine as1_level (pc := 113) dX1_levelPairs_113 (by omega) ?_
            refine nxt _ (fun q hq => by rw [wset_i _ _ hq]; exact hf q hq) (fun s t hs' ht' => ?_)
            by_cases e : s * n + t = i
            · obtain ⟨rfl, rfl⟩ := pair_eq ht' e
              rw [wset_s, if_pos (by omega), lvl_new e1 e2]
            · have hne : 5 * s + t ≠ 5 * (i / n) + i % n := by
                intro e3
                have e4 : s = i / n := by omega
                have e5 : t = i % n := by omega
                rw [e4, e5] at e
                exact e hst
              rw [wset_k _ _ hne, hv s t hs' ht']
              by_cases e3 : s * n + t < i
              · rw [if_pos e3, if_pos (by omega)]
              · rw [if_neg e3, if_neg (by omega)]
          have hsp : ∀ a, a < 2 → lvl E k (i / n) (i % n) = 1000 → (if k + 1 = 1 then dif E (i / n) (i % n) a else stp E (fun p q => decide (w2 1 (5 * p + q) = nI (k + 1 - 1))) (i / n) (i % n) a) = spa E (k + 1) (i / n) (i % n) a := by
            intro a ha hfar
            rw [← spa_lvl (by omega) ha hfar]
            by_cases hk0 : k + 1 = 1
            · rw [if_pos hk0, if_pos hk0]
            · rw [if_neg hk0, if_neg hk0]
              apply stp_congr
              intro h1 h3
              have b1 := nx_le hE3 (i / n) a
              have b2 := nx_le hE3 (i % n) a
              have l1 := lvl_le E (k := k) (by omega) (nx E (i / n) a - 1) (nx E (i % n) a - 1)
              have l2 := lvl_le E (k := k + 1) (by omega) (nx E (i / n) a - 1) (nx E (i % n) a - 1)
              rw [hv _ _ (by omega) (by omega)]
              apply decide_eq_decide.mpr
              split
              · rw [nI_eq (by omega) (by omega)]
                exact lvl_mix (by omega) (by omega)
              · rw [nI_eq (by omega) (by omega)]
          refine j_il2n (pc := 33) dX1_levelPairs_33 ?_
          refine j_al0n (pc := 34) dX1_levelPairs_34 ?_
          refine g1_n (pc := 35) dX1_levelPairs_35 (by first | assumption | rfl) ?_
          refine j_al0n (pc := 38) dX1_levelPairs_38 ?_
          refine g1_n (pc := 39) dX1_levelPairs_39 (by first | assumption | rfl) ?_
          first | with_reducible refine j_imulN (pc := 42) dX1_levelPairs_42 ?_ | refine j_imul (pc := 42) dX1_levelPairs_42 ?_
          refine j_icmp_geN (pc := 43) 120 dX1_levelPairs_43 (by decide) (by omega) (by omega) (fun c2 => ?_) (fun c2 => ?_)
          · omega
          refine j_il2n (pc := 46) dX1_levelPairs_46 ?_
          refine j_al0n (pc := 47) dX1_levelPairs_47 ?_
          refine g1_n (pc := 48) dX1_levelPairs_48 (by first | assumption | rfl) ?_
          refine j_idivN (pc := 51) dX1_levelPairs_51 (by omega) (by omega) (by omega) ?_
          first | refine j_st3n_s (pc := 52) dX1_levelPairs_52 ?_ | refine j_st3n_a (pc := 52) dX1_levelPairs_52 ?_
          refine j_il2n (pc := 53) dX1_levelPairs_53 ?_
          refine j_al0n (pc := 54) dX1_levelPairs_54 ?_
          refine g1_n (pc := 55) dX1_levelPairs_55 (by first | assumption | rfl) ?_
          refine j_iremN (pc := 58) dX1_levelPairs_58 (by omega) (by omega) (by omega) ?_
          first | refine j_st4_s (pc := 59) dX1_levelPairs_59 ?_ | refine j_st4_a (pc := 59) dX1_levelPairs_59 ?_
          refine j_al0n (pc := 61) dX1_levelPairs_61 ?_
          refine g1_level (pc := 62) dX1_levelPairs_62 ?_
          refine j_iconst (pc := 65) (nI 5) dX1_levelPairs_65 (by decide) ?_
          refine j_il3n (pc := 66) dX1_levelPairs_66 ?_
          first | with_reducible refine j_imulN (pc := 67) dX1_levelPairs_67 ?_ | refine j_imul (pc := 67) dX1_levelPairs_67 ?_
          refine j_il4 (pc := 68) dX1_levelPairs_68 ?_
          first | with_reducible refine j_iaddN (pc := 70) dX1_levelPairs_70 ?_ | refine j_iadd (pc := 70) dX1_levelPairs_70 ?_
          refine al1_level (pc := 71) dX1_levelPairs_71 (by omega) (by first | assumption | rfl) ?_
          refine j_sipush (pc := 72) (nI 1000) dX1_levelPairs_72 (by decide) ?_
          refine j_icmp_neN (pc := 75) 114 dX1_levelPairs_75 (by decide) (by omega) (by omega) (fun c3 => ?_) (fun c3 => ?_)
          · exact nxt w2 hf (keep (fun e => c3 e.1))
          refine j_al0n (pc := 78) dX1_levelPairs_78 ?_
          refine j_il3n (pc := 79) dX1_levelPairs_79 ?_
          refine j_il4 (pc := 80) dX1_levelPairs_80 ?_
          refine j_iconst (pc := 82) (nI 0) dX1_levelPairs_82 (by decide) ?_
          refine j_il1n (pc := 83) dX1_levelPairs_83 ?_
          refine cl1_splits (pc := 84) dX1_levelPairs_84 (m1_splits ok2 hs ht (by omega) (by omega) (by omega)) (fun r w' e => ?_)
          obtain ⟨rfl, rfl⟩ := e
          rw [hsp 0 (by omega) c3]
          refine j_if_neB (pc := 87) 102 dX1_levelPairs_87 (by decide) (fun c4 => ?_) (fun c4 => ?_)
          · exact store c3 (by rw [sp_spa, c4]; rfl)
          refine j_al0n (pc := 90) dX1_levelPairs_90 ?_
          refine j_il3n (pc := 91) dX1_levelPairs_91 ?_
          refine j_il4 (pc := 92) dX1_levelPairs_92 ?_
          refine j_iconst (pc := 94) (nI 1) dX1_levelPairs_94 (by decide) ?_
          refine j_il1n (pc := 95) dX1_levelPairs_95 ?_
          refine cl1_splits (pc := 96) dX1_levelPairs_96 (m1_splits ok2 hs ht (by omega) (by omega) (by omega)) (fun r w' e => ?_)
          obtain ⟨rfl, rfl⟩ := e
          rw [hsp 1 (by omega) c3]
          refine j_if_eqB (pc := 99) 114 dX1_levelPairs_99 (by decide) (fun c5 => ?_) (fun c5 => ?_)
          · exact nxt w2 hf (keep (fun e => by rw [sp_spa, c4, c5] at e; exact absurd e.2 (by decide)))
          · exact store c3 (by rw [sp_spa, c5]; simp)
      exact inn (n * n) 0 w1 (by omega) hf (fun s t hs ht => by rw [hv s t hs ht, if_neg (by omega)])
  have L1 : ∀ m i w1, i + m = 25 → (∀ q, q ≠ 1 → w1 q = w q) → (∀ j, j < i → w1 1 j = nI 1000) → J X (K1 h d) cX1_levelPairs 5 2 2 [.ref (h 0), .int (nI i)] [] w1 := by
    intro m
    induction m with
    | zero =>
      intro i w1 hi hf hj
      refine j_il1n (pc := 2) dX1_levelPairs_2 ?_
      refine j_bipush (pc := 3) (nI 25) dX1_levelPairs_3 (by decide) ?_
      refine j_icmp_geN (pc := 5) 23 dX1_levelPairs_5 (by decide) (by omega) (by omega) (fun c => ?_) (fun c => ?_)
      · refine j_iconst (pc := 23) (nI 1) dX1_levelPairs_23 (by decide) ?_
        first | refine j_st1n_s (pc := 24) dX1_levelPairs_24 ?_ | refine j_st1n_a (pc := 24) dX1_levelPairs_24 ?_
        exact out 25 0 w1 (by omega) hf (fun s t hs ht => hj _ (by omega))
      · omega
    | succ m ih =>
      intro i w1 hi hf hj
      refine j_il1n (pc := 2) dX1_levelPairs_2 ?_
      refine j_bipush (pc := 3) (nI 25) dX1_levelPairs_3 (by decide) ?_
      refine j_icmp_geN (pc := 5) 23 dX1_levelPairs_5 (by decide) (by omega) (by omega) (fun c => ?_) (fun c => ?_)
      · omega
      refine j_al0n (pc := 8) dX1_levelPairs_8 ?_
      refine g1_level (pc := 9) dX1_levelPairs_9 ?_
      refine j_il1n (pc := 12) dX1_levelPairs_12 ?_
      refine j_sipush (pc := 13) (nI 1000) dX1_levelPairs_13 (by decide) ?_
      refine as1_level (pc := 16) dX1_levelPairs_16 (by omega) ?_
      refine j_inc1N (pc := 17) dX1_levelPairs_17 ?_
      refine j_goto (pc := 20) 2 dX1_levelPairs_20 (by decide) ?_
      refine ih (i + 1) _ (by omega) (fun q hq => by rw [wset_i _ _ hq]; exact hf q hq) (fun j hj2 => ?_)
      by_cases e : j = i
      · rw [e, wset_s]
      · rw [wset_k _ _ e]
        exact hj j (by omega)
  refine j_iconst (pc := 0) (nI 0) dX1_levelPairs_0 (by decide) ?_
  first | refine j_st1n_s (pc := 1) dX1_levelPairs_1 ?_ | refine j_st1n_a (pc := 1) dX1_levelPairs_1 ?_
  exact L1 25 0 w (by omega) (fun _ _ => rfl) (fun j hj => by omega)
end S1
end
section
/-! holdsTogether, image, firstWith, sharedOutput, inOne, isClosed, buildClasses of X1 -/
set_option maxRecDepth 100000
theorem imN_lt {n : Nat} {E : Nat → Nat} (hE : ∀ k, E k < 3 * (n + 1)) (c a : Nat) : ∀ s, imN E c a s < 2 ^ n := by
  intro s
  induction s with
  | zero => exact Nat.two_pow_pos n
  | succ s ih =>
    rw [imN]
    split
    · rename_i hc
      have := nx_le hE s a
      exact Nat.or_lt_two_pow ih (Nat.pow_lt_pow_right (by omega) (by omega))
    · exact ih
section S1
variable {l : Launch} {D : va_G} {h : Nat → Nat} {d : Nat → ClassId} {w : Wd} {n : Nat} {E : Nat → Nat}
set_option maxHeartbeats 1000000 in
theorem m1_inOne {x a b c : Nat} (hx : x < 32) (ha : a < 32) (hb : b < 32) (hc : c < 32) : Mi l D (K1 h d) yX1_inOne cX1_inOne 4 0 (some .boolean) [.int (nI x), .int (nI a), .int (nI b), .int (nI c)] w (fun r w' => w = w' ∧ r = bI (decide (x &&& a = x ∨ x &&& b = x ∨ x &&& c = x))) := by
  refine Mi.of (by decide) rfl (by simp [Value.category]) (Nat.le_of_ble_eq_true rfl) (fun X R => ?_)
  refine j_il0n (pc := 0) dX1_inOne_0 ?_
  refine j_il1n (pc := 1) dX1_inOne_1 ?_
  refine j_iconst (pc := 2) (-1) dX1_inOne_2 (by decide) ?_
  refine j_ixor (pc := 3) dX1_inOne_3 ?_
  refine j_iand (pc := 4) dX1_inOne_4 ?_
  refine j_if_eq (pc := 5) 24 dX1_inOne_5 (by decide) (fun c1 => ?_) (fun c1 => ?_)
  · rw [nI_sub0 (by omega) (by omega)] at c1
    refine j_iconst (pc := 24) (nI 1) dX1_inOne_24 (by decide) ?_
    refine j_goto (pc := 25) 29 dX1_inOne_25 (by decide) ?_
    exact j_zret R dX1_inOne_29 true (by first | rfl | decide) (⟨rfl, by rw [decide_eq_true (Or.inl c1)]⟩)
  rw [nI_sub0 (by omega) (by omega)] at c1
  refine j_il0n (pc := 8) dX1_inOne_8 ?_
  refine j_il2n (pc := 9) dX1_inOne_9 ?_
  refine j_iconst (pc := 10) (-1) dX1_inOne_10 (by decide) ?_
  refine j_ixor (pc := 11) dX1_inOne_11 ?_
  refine j_iand (pc := 12) dX1_inOne_12 ?_
  refine j_if_eq (pc := 13) 24 dX1_inOne_13 (by decide) (fun c2 => ?_) (fun c2 => ?_)
  · rw [nI_sub0 (by omega) (by omega)] at c2
    refine j_iconst (pc := 24) (nI 1) dX1_inOne_24 (by decide) ?_
    refine j_goto (pc := 25) 29 dX1_inOne_25 (by decide) ?_
    exact j_zret R dX1_inOne_29 true (by first | rfl | decide) (⟨rfl, by rw [decide_eq_true (Or.inr (Or.inl c2))]⟩)
  rw [nI_sub0 (by omega) (by omega)] at c2
  refine j_il0n (pc := 16) dX1_inOne_16 ?_
  refine j_il3n (pc := 17) dX1_inOne_17 ?_
  refine j_iconst (pc := 18) (-1) dX1_inOne_18 (by decide) ?_
  refine j_ixor (pc := 19) dX1_inOne_19 ?_
  refine j_iand (pc := 20) dX1_inOne_20 ?_
  refine j_if_ne (pc := 21) 28 dX1_inOne_21 (by decide) (fun c3 => ?_) (fun c3 => ?_)
  · rw [nI_sub0 (by omega) (by omega)] at c3
    refine j_iconst (pc := 28) (nI 0) dX1_inOne_28 (by decide) ?_
    exact j_zret R dX1_inOne_29 false (by first | rfl | decide) (⟨rfl, by rw [decide_eq_false (by rintro (q | q | q); exact c1 q; exact c2 q; exact c3 q)]⟩)
  · rw [nI_sub0 (by omega) (by omega)] at c3
    refine j_iconst (pc := 24) (nI 1) dX1_inOne_24 (by decide) ?_
    refine j_goto (pc := 25) 29 dX1_inOne_25 (by decide) ?_
    exact j_zret R dX1_inOne_29 true (by first | rfl | decide) (⟨rfl, by rw [decide_eq_true (Or.inr (Or.inr c3))]⟩)
set_option maxHeartbeats 1000000 in
theorem m1_holdsTogether (ok : Ok1 n E w) {lv : Nat → Nat → Nat} (hlv : ∀ s t, s < n → t < n → w 1 (5 * s + t) = nI (lv s t)) (hlb : ∀ s t, lv s t ≤ 1000) {c : Nat} (hc : c < 32) : Mi l D (K1 h d) yX1_holdsTogether cX1_holdsTogether 5 0 (some .boolean) [.ref (h 0), .int (nI c)] w (fun r w' => w = w' ∧ r = bI (hold n lv c)) := by
  obtain ⟨h2, h5, hE3, hE, hn⟩ := ok
  have hnn := nn_le h5
  refine Mi.of (by decide) rfl (by simp [Value.category]) (Nat.le_of_ble_eq_true rfl) (fun X R => ?_)
  have L : ∀ m i, i + m = n * n → (∀ s t, s < n → t < n → s * n + t < i → c.testBit s = true → c.testBit t = true → lv s t = 1000) → J X (K1 h d) cX1_holdsTogether 5 0 2 [.ref (h 0), .int (nI c), .int (nI i)] [] w := by
    intro m
    induction m with
    | zero =>
      intro i hi hall
      refine j_il2n (pc := 2) dX1_holdsTogether_2 ?_
      refine j_al0n (pc := 3) dX1_holdsTogether_3 ?_
      refine g1_n (pc := 4) dX1_holdsTogether_4 (by first | assumption | rfl) ?_
      refine j_al0n (pc := 7) dX1_holdsTogether_7 ?_
      refine g1_n (pc := 8) dX1_holdsTogether_8 (by first | assumption | rfl) ?_
      first | with_reducible refine j_imulN (pc := 11) dX1_holdsTogether_11 ?_ | refine j_imul (pc := 11) dX1_holdsTogether_11 ?_
      refine j_icmp_geN (pc := 12) 74 dX1_holdsTogether_12 (by decide) (by omega) (by omega) (fun c1 => ?_) (fun c1 => ?_)
      · refine j_iconst (pc := 74) (nI 1) dX1_holdsTogether_74 (by decide) ?_
        exact j_zret R dX1_holdsTogether_75 true (by first | rfl | decide) (⟨rfl, by rw [hold, decide_eq_true (fun s hs t ht => hall s t hs ht (by have := pair_lt hs ht; omega))]⟩)
      · omega
    | succ m ih =>
      intro i hi hall
      have hs : i / n < n := Nat.div_lt_of_lt_mul (by omega)
      have ht : i % n < n := Nat.mod_lt _ (by omega)
      have hst : (i / n) * n + i % n = i := by rw [Nat.mul_comm]; exact Nat.div_add_mod i n
      have hb := hlb (i / n) (i % n)
      have hq1 : c / 2 ^ (i / n) &&& 1 < 2 ^ 31 := Nat.lt_of_le_of_lt Nat.and_le_right (by decide)
      have hq2 : c / 2 ^ (i % n) &&& 1 < 2 ^ 31 := Nat.lt_of_le_of_lt Nat.and_le_right (by decide)
      have nxt : (c.testBit (i / n) = true → c.testBit (i % n) = true → lv (i / n) (i % n) = 1000) → J X (K1 h d) cX1_holdsTogether 5 0 68 [.ref (h 0), .int (nI c), .int (nI i), .int (nI (i / n)), .int (nI (i % n))] [] w := by
        intro hx
        refine j_inc2N (pc := 68) dX1_holdsTogether_68 ?_
        refine j_goto (pc := 71) 2 dX1_holdsTogether_71 (by decide) ?_
        refine j_wk (ih (i + 1) (by omega) (fun s t hs' ht' hlt b1 b2 => ?_)) ⟨_, rfl⟩
        by_cases e : s * n + t < i
        · exact hall s t hs' ht' e b1 b2
        · obtain ⟨rfl, rfl⟩ := pair_eq ht' (show s * n + t = i by omega)
          exact hx b1 b2
      refine j_il2n (pc := 2) dX1_holdsTogether_2 ?_
      refine j_al0n (pc := 3) dX1_holdsTogether_3 ?_
      refine g1_n (pc := 4) dX1_holdsTogether_4 (by first | assumption | rfl) ?_
      refine j_al0n (pc := 7) dX1_holdsTogether_7 ?_
      refine g1_n (pc := 8) dX1_holdsTogether_8 (by first | assumption | rfl) ?_
      first | with_reducible refine j_imulN (pc := 11) dX1_holdsTogether_11 ?_ | refine j_imul (pc := 11) dX1_holdsTogether_11 ?_
      refine j_icmp_geN (pc := 12) 74 dX1_holdsTogether_12 (by decide) (by omega) (by omega) (fun c1 => ?_) (fun c1 => ?_)
      · omega
      refine j_il2n (pc := 15) dX1_holdsTogether_15 ?_
      refine j_al0n (pc := 16) dX1_holdsTogether_16 ?_
      refine g1_n (pc := 17) dX1_holdsTogether_17 (by first | assumption | rfl) ?_
      refine j_idivN (pc := 20) dX1_holdsTogether_20 (by omega) (by omega) (by omega) ?_
      first | refine j_st3n_s (pc := 21) dX1_holdsTogether_21 ?_ | refine j_st3n_a (pc := 21) dX1_holdsTogether_21 ?_
      refine j_il2n (pc := 22) dX1_holdsTogether_22 ?_
      refine j_al0n (pc := 23) dX1_holdsTogether_23 ?_
      refine g1_n (pc := 24) dX1_holdsTogether_24 (by first | assumption | rfl) ?_
      refine j_iremN (pc := 27) dX1_holdsTogether_27 (by omega) (by omega) (by omega) ?_
      first | refine j_st4_s (pc := 28) dX1_holdsTogether_28 ?_ | refine j_st4_a (pc := 28) dX1_holdsTogether_28 ?_
      refine j_il1n (pc := 30) dX1_holdsTogether_30 ?_
      refine j_il3n (pc := 31) dX1_holdsTogether_31 ?_
      refine j_ishrN (pc := 32) dX1_holdsTogether_32 (by omega) (by omega) ?_
      refine j_iconst (pc := 33) (nI 1) dX1_holdsTogether_33 (by decide) ?_
      first | with_reducible refine j_iandN (pc := 34) dX1_holdsTogether_34 ?_ | refine j_iand (pc := 34) dX1_holdsTogether_34 ?_
      refine j_iconst (pc := 35) (nI 1) dX1_holdsTogether_35 (by decide) ?_
      refine j_icmp_neN (pc := 36) 68 dX1_holdsTogether_36 (by decide) hq1 (by decide) (fun c2 => ?_) (fun c2 => ?_)
      · exact nxt (fun b => absurd ((bit_iff _ _).mpr b) c2)
      refine j_il1n (pc := 39) dX1_holdsTogether_39 ?_
      refine j_il4 (pc := 40) dX1_holdsTogether_40 ?_
      refine j_ishrN (pc := 42) dX1_holdsTogether_42 (by omega) (by omega) ?_
      refine j_iconst (pc := 43) (nI 1) dX1_holdsTogether_43 (by decide) ?_
      first | with_reducible refine j_iandN (pc := 44) dX1_holdsTogether_44 ?_ | refine j_iand (pc := 44) dX1_holdsTogether_44 ?_
      refine j_iconst (pc := 45) (nI 1) dX1_holdsTogether_45 (by decide) ?_
      refine j_icmp_neN (pc := 46) 68 dX1_holdsTogether_46 (by decide) hq2 (by decide) (fun c3 => ?_) (fun c3 => ?_)
      · exact nxt (fun _ b => absurd ((bit_iff _ _).mpr b) c3)
      refine j_al0n (pc := 49) dX1_holdsTogether_49 ?_
      refine g1_level (pc := 50) dX1_holdsTogether_50 ?_
      refine j_iconst (pc := 53) (nI 5) dX1_holdsTogether_53 (by decide) ?_
      refine j_il3n (pc := 54) dX1_holdsTogether_54 ?_
      first | with_reducible refine j_imulN (pc := 55) dX1_holdsTogether_55 ?_ | refine j_imul (pc := 55) dX1_holdsTogether_55 ?_
      refine j_il4 (pc := 56) dX1_holdsTogether_56 ?_
      first | with_reducible refine j_iaddN (pc := 58) dX1_holdsTogether_58 ?_ | refine j_iadd (pc := 58) dX1_holdsTogether_58 ?_
      refine al1_level (pc := 59) dX1_holdsTogether_59 (by omega) (hlv _ _ hs ht) ?_
      refine j_sipush (pc := 60) (nI 1000) dX1_holdsTogether_60 (by decide) ?_
      refine j_icmp_eqN (pc := 63) 68 dX1_holdsTogether_63 (by decide) (by omega) (by omega) (fun c4 => ?_) (fun c4 => ?_)
      · exact nxt (fun _ _ => c4)
      · refine j_iconst (pc := 66) (nI 0) dX1_holdsTogether_66 (by decide) ?_
        exact j_zret R dX1_holdsTogether_67 false (by first | rfl | decide) (⟨rfl, by rw [hold, decide_eq_false (fun q => c4 (q _ hs _ ht ((bit_iff _ _).mp c2) ((bit_iff _ _).mp c3)))]⟩)
  refine j_iconst (pc := 0) (nI 0) dX1_holdsTogether_0 (by decide) ?_
  first | refine j_st2n_s (pc := 1) dX1_holdsTogether_1 ?_ | refine j_st2n_a (pc := 1) dX1_holdsTogether_1 ?_
  exact L (n * n) 0 (by omega) (fun s t _ _ hlt => by omega)
set_option maxHeartbeats 1000000 in
theorem m1_image (ok : Ok1 n E w) {c a : Nat} (hc : c < 32) (ha : a < 2) : Mi l D (K1 h d) yX1_image cX1_image 6 1 (some .int) [.ref (h 0), .int (nI c), .int (nI a)] w (fun r w' => w = w' ∧ r = nI (imN E c a n)) := by
  have ok' := ok
  obtain ⟨h2, h5, hE3, hE, hn⟩ := ok
  refine Mi.of (by decide) rfl (by simp [Value.category]) (Nat.le_of_ble_eq_true rfl) (fun X R => ?_)
  have L : ∀ m s, s + m = n → J X (K1 h d) cX1_image 6 1 5 [.ref (h 0), .int (nI c), .int (nI a), .int (nI (imN E c a s)), .int (nI s)] [] w := by
    intro m
    induction m with
    | zero =>
      intro s hs
      refine j_il4 (pc := 5) dX1_image_5 ?_
      refine j_al0n (pc := 7) dX1_image_7 ?_
      refine g1_n (pc := 8) dX1_image_8 (by first | assumption | rfl) ?_
      refine j_icmp_geN (pc := 11) 52 dX1_image_11 (by decide) (by omega) (by omega) (fun c1 => ?_) (fun c1 => ?_)
      · refine j_il3n (pc := 52) dX1_image_52 ?_
        exact j_iret R dX1_image_53 (⟨rfl, by rw [show s = n by omega]⟩)
      · omega
    | succ m ih =>
      intro s hs
      have b1 := nx_le hE3 s a
      have hq1 : c / 2 ^ s &&& 1 < 2 ^ 31 := Nat.lt_of_le_of_lt Nat.and_le_right (by decide)
      have nxt : ∀ r v, r = imN E c a (s + 1) → J X (K1 h d) cX1_image 6 1 46 [.ref (h 0), .int (nI c), .int (nI a), .int (nI r), .int (nI s), .int v] [] w := by
        intro r v e
        subst e
        refine j_inc4N (pc := 46) dX1_image_46 ?_
        refine j_goto (pc := 49) 5 dX1_image_49 (by decide) ?_
        exact j_wk (ih (s + 1) (by omega)) ⟨_, rfl⟩
      refine j_il4 (pc := 5) dX1_image_5 ?_
      refine j_al0n (pc := 7) dX1_image_7 ?_
      refine g1_n (pc := 8) dX1_image_8 (by first | assumption | rfl) ?_
      refine j_icmp_geN (pc := 11) 52 dX1_image_11 (by decide) (by omega) (by omega) (fun c1 => ?_) (fun c1 => ?_)
      · omega
      refine j_al0n (pc := 14) dX1_image_14 ?_
      refine j_il4 (pc := 15) dX1_image_15 ?_
      refine j_il2n (pc := 17) dX1_image_17 ?_
      refine cl1_next (pc := 18) dX1_image_18 (m1_next ok' (by omega) ha) (fun r w' e => ?_)
      obtain ⟨rfl, rfl⟩ := e
      first | refine j_st5_s (pc := 21) dX1_image_21 ?_ | refine j_st5_a (pc := 21) dX1_image_21 ?_
      refine j_il1n (pc := 23) dX1_image_23 ?_
      refine j_il4 (pc := 24) dX1_image_24 ?_
      refine j_ishrN (pc := 26) dX1_image_26 (by omega) (by omega) ?_
      refine j_iconst (pc := 27) (nI 1) dX1_image_27 (by decide) ?_
      first | with_reducible refine j_iandN (pc := 28) dX1_image_28 ?_ | refine j_iand (pc := 28) dX1_image_28 ?_
      refine j_iconst (pc := 29) (nI 1) dX1_image_29 (by decide) ?_
      refine j_icmp_neN (pc := 30) 46 dX1_image_30 (by decide) hq1 (by decide) (fun c2 => ?_) (fun c2 => ?_)
      · exact nxt _ _ (by rw [imN, if_neg (fun q => c2 ((bit_iff _ _).mpr q.1))])
      refine j_il5 (pc := 33) dX1_image_33 ?_
      refine j_iconst (pc := 35) (-1) dX1_image_35 (by decide) ?_
      refine j_icmp_eq (pc := 36) 46 dX1_image_36 (by decide) (fun c3 => ?_) (fun c3 => ?_)
      · rw [no_m1 (by omega)] at c3
        exact nxt _ _ (by rw [imN, if_neg (fun q => q.2 c3)])
      · rw [no_m1 (by omega)] at c3
        obtain ⟨t, ht⟩ : ∃ t, nx E s a = t + 1 := ⟨nx E s a - 1, by omega⟩
        have e2 : imN E c a (s + 1) = imN E c a s ||| 2 ^ t := by
          rw [imN, if_pos ⟨(bit_iff _ _).mp c2, c3⟩, ht]
          rfl
        rw [ht]
        simp only [no]
        refine j_il3n (pc := 39) dX1_image_39 ?_
        refine j_iconst (pc := 40) (nI 1) dX1_image_40 (by decide) ?_
        refine j_il5 (pc := 41) dX1_image_41 ?_
        refine j_ishl1 (pc := 43) dX1_image_43 (by omega) ?_
        first | with_reducible refine j_iorN (pc := 44) dX1_image_44 ?_ | refine j_ior (pc := 44) dX1_image_44 ?_
        first | refine j_st3n_s (pc := 45) dX1_image_45 ?_ | refine j_st3n_a (pc := 45) dX1_image_45 ?_
        exact nxt _ _ e2.symm
  refine j_iconst (pc := 0) (nI 0) dX1_image_0 (by decide) ?_
  first | refine j_st3n_s (pc := 1) dX1_image_1 ?_ | refine j_st3n_a (pc := 1) dX1_image_1 ?_
  refine j_iconst (pc := 2) (nI 0) dX1_image_2 (by decide) ?_
  first | refine j_st4_s (pc := 3) dX1_image_3 ?_ | refine j_st4_a (pc := 3) dX1_image_3 ?_
  exact L n 0 (by omega)
set_option maxHeartbeats 1000000 in
theorem m1_firstWith {cv : Nat → Nat} {cnt set : Nat} (hcnt : cnt ≤ 5) (hc3 : w 10 3 = nI cnt) (hcv : ∀ i, i < cnt → w 7 i = nI (cv i) ∧ cv i < 32) (hset : set < 32) : Mi l D (K1 h d) yX1_firstWith cX1_firstWith 3 0 (some .int) [.ref (h 0), .int (nI set)] w (fun r w' => w = w' ∧ r = no (fwF cv set cnt 0)) := by
  refine Mi.of (by decide) rfl (by simp [Value.category]) (Nat.le_of_ble_eq_true rfl) (fun X R => ?_)
  have L : ∀ m i, i + m = cnt → fwF cv set m i = fwF cv set cnt 0 → J X (K1 h d) cX1_firstWith 3 0 2 [.ref (h 0), .int (nI set), .int (nI i)] [] w := by
    intro m
    induction m with
    | zero =>
      intro i hi he
      refine j_il2n (pc := 2) dX1_firstWith_2 ?_
      refine j_al0n (pc := 3) dX1_firstWith_3 ?_
      refine g1_coverCount (pc := 4) dX1_firstWith_4 (by first | assumption | rfl) ?_
      refine j_icmp_geN (pc := 7) 31 dX1_firstWith_7 (by decide) (by omega) (by omega) (fun c1 => ?_) (fun c1 => ?_)
      · refine j_iconst (pc := 31) (-1) dX1_firstWith_31 (by decide) ?_
        exact j_iret R dX1_firstWith_32 (⟨rfl, by rw [← he]; rfl⟩)
      · omega
    | succ m ih =>
      intro i hi he
      have hv := hcv i (by omega)
      refine j_il2n (pc := 2) dX1_firstWith_2 ?_
      refine j_al0n (pc := 3) dX1_firstWith_3 ?_
      refine g1_coverCount (pc := 4) dX1_firstWith_4 (by first | assumption | rfl) ?_
      refine j_icmp_geN (pc := 7) 31 dX1_firstWith_7 (by decide) (by omega) (by omega) (fun c1 => ?_) (fun c1 => ?_)
      · omega
      refine j_il1n (pc := 10) dX1_firstWith_10 ?_
      refine j_al0n (pc := 11) dX1_firstWith_11 ?_
      refine g1_cover (pc := 12) dX1_firstWith_12 ?_
      refine j_il2n (pc := 15) dX1_firstWith_15 ?_
      refine al1_cover (pc := 16) dX1_firstWith_16 (by omega) (hv.1) ?_
      refine j_iconst (pc := 17) (-1) dX1_firstWith_17 (by decide) ?_
      refine j_ixor (pc := 18) dX1_firstWith_18 ?_
      refine j_iand (pc := 19) dX1_firstWith_19 ?_
      refine j_if_ne (pc := 20) 25 dX1_firstWith_20 (by decide) (fun c2 => ?_) (fun c2 => ?_)
      · rw [nI_sub0 (by omega) (by omega)] at c2
        refine j_inc2N (pc := 25) dX1_firstWith_25 ?_
        refine j_goto (pc := 28) 2 dX1_firstWith_28 (by decide) ?_
        refine ih (i + 1) (by omega) ?_
        rw [← he, fwF, if_neg c2]
      · rw [nI_sub0 (by omega) (by omega)] at c2
        refine j_il2n (pc := 23) dX1_firstWith_23 ?_
        exact j_iret R dX1_firstWith_24 (⟨rfl, by rw [← he, fwF, if_pos c2]; rfl⟩)
  refine j_iconst (pc := 0) (nI 0) dX1_firstWith_0 (by decide) ?_
  first | refine j_st2n_s (pc := 1) dX1_firstWith_1 ?_ | refine j_st2n_a (pc := 1) dX1_firstWith_1 ?_
  exact L cnt 0 (by omega) rfl
set_option maxHeartbeats 1000000 in
theorem m1_sharedOutput (ok : Ok1 n E w) {c a : Nat} (hc : c < 32) (ha : a < 2) : Mi l D (K1 h d) yX1_sharedOutput cX1_sharedOutput 5 1 (some .int) [.ref (h 0), .int (nI c), .int (nI a)] w (fun r w' => w = w' ∧ r = no (soF E c a n 0)) := by
  have ok' := ok
  obtain ⟨h2, h5, hE3, hE, hn⟩ := ok
  refine Mi.of (by decide) rfl (by simp [Value.category]) (Nat.le_of_ble_eq_true rfl) (fun X R => ?_)
  have L : ∀ m s, s + m = n → soF E c a m s = soF E c a n 0 → J X (K1 h d) cX1_sharedOutput 5 1 2 [.ref (h 0), .int (nI c), .int (nI a), .int (nI s)] [] w := by
    intro m
    induction m with
    | zero =>
      intro s hs he
      refine j_il3n (pc := 2) dX1_sharedOutput_2 ?_
      refine j_al0n (pc := 3) dX1_sharedOutput_3 ?_
      refine g1_n (pc := 4) dX1_sharedOutput_4 (by first | assumption | rfl) ?_
      refine j_icmp_geN (pc := 7) 42 dX1_sharedOutput_7 (by decide) (by omega) (by omega) (fun c1 => ?_) (fun c1 => ?_)
      · refine j_iconst (pc := 42) (-1) dX1_sharedOutput_42 (by decide) ?_
        exact j_iret R dX1_sharedOutput_43 (⟨rfl, by rw [← he]; rfl⟩)
      · omega
    | succ m ih =>
      intro s hs he
      have hq1 : c / 2 ^ s &&& 1 < 2 ^ 31 := Nat.lt_of_le_of_lt Nat.and_le_right (by decide)
      have b1 := ot_lt E s a
      refine j_il3n (pc := 2) dX1_sharedOutput_2 ?_
      refine j_al0n (pc := 3) dX1_sharedOutput_3 ?_
      refine g1_n (pc := 4) dX1_sharedOutput_4 (by first | assumption | rfl) ?_
      refine j_icmp_geN (pc := 7) 42 dX1_sharedOutput_7 (by decide) (by omega) (by omega) (fun c1 => ?_) (fun c1 => ?_)
      · omega
      refine j_il1n (pc := 10) dX1_sharedOutput_10 ?_
      refine j_il3n (pc := 11) dX1_sharedOutput_11 ?_
      refine j_ishrN (pc := 12) dX1_sharedOutput_12 (by omega) (by omega) ?_
      refine j_iconst (pc := 13) (nI 1) dX1_sharedOutput_13 (by decide) ?_
      first | with_reducible refine j_iandN (pc := 14) dX1_sharedOutput_14 ?_ | refine j_iand (pc := 14) dX1_sharedOutput_14 ?_
      refine j_iconst (pc := 15) (nI 1) dX1_sharedOutput_15 (by decide) ?_
      refine j_icmp_neN (pc := 16) 36 dX1_sharedOutput_16 (by decide) hq1 (by decide) (fun c2 => ?_) (fun c2 => ?_)
      · refine j_inc3N (pc := 36) dX1_sharedOutput_36 ?_
        refine j_goto (pc := 39) 2 dX1_sharedOutput_39 (by decide) ?_
        refine ih (s + 1) (by omega) ?_
        rw [← he, soF, if_neg (fun q => c2 ((bit_iff _ _).mpr q.1))]
      refine j_al0n (pc := 19) dX1_sharedOutput_19 ?_
      refine j_il3n (pc := 20) dX1_sharedOutput_20 ?_
      refine j_il2n (pc := 21) dX1_sharedOutput_21 ?_
      refine cl1_output (pc := 22) dX1_sharedOutput_22 (m1_output ok' (by omega) ha) (fun r w' e => ?_)
      obtain ⟨rfl, rfl⟩ := e
      first | refine j_st4_s (pc := 25) dX1_sharedOutput_25 ?_ | refine j_st4_a (pc := 25) dX1_sharedOutput_25 ?_
      refine j_il4 (pc := 27) dX1_sharedOutput_27 ?_
      refine j_iconst (pc := 29) (-1) dX1_sharedOutput_29 (by decide) ?_
      refine j_icmp_eq (pc := 30) 36 dX1_sharedOutput_30 (by decide) (fun c3 => ?_) (fun c3 => ?_)
      · rw [no_m1 (by omega)] at c3
        refine j_inc3N (pc := 36) dX1_sharedOutput_36 ?_
        refine j_goto (pc := 39) 2 dX1_sharedOutput_39 (by decide) ?_
        refine j_wk (ih (s + 1) (by omega) ?_) ⟨_, rfl⟩
        rw [← he, soF, if_neg (fun q => q.2 c3)]
      · rw [no_m1 (by omega)] at c3
        refine j_il4 (pc := 33) dX1_sharedOutput_33 ?_
        exact j_iret R dX1_sharedOutput_35 (⟨rfl, by rw [← he, soF, if_pos ⟨(bit_iff _ _).mp c2, c3⟩]⟩)
  refine j_iconst (pc := 0) (nI 0) dX1_sharedOutput_0 (by decide) ?_
  first | refine j_st3n_s (pc := 1) dX1_sharedOutput_1 ?_ | refine j_st3n_a (pc := 1) dX1_sharedOutput_1 ?_
  exact L n 0 (by omega) rfl
end S1
end
section
/-! isClosed, buildClasses, listSets, listLargest of X1 -/
set_option maxRecDepth 100000
def clo (E : Nat → Nat) (n : Nat) (cv : Nat → Nat) (size : Nat) : Bool := decide (∀ k, k < 2 * size → fwF cv (imN E (cv (k / 2)) (k % 2) n) size 0 ≠ 0)
def cst (p : Nat → Bool) : Nat → List Nat
  | 0 => []
  | m + 1 => if p m = true then cst p m ++ [m] else cst p m
def hp (n : Nat) (lv : Nat → Nat → Nat) (c : Nat) : Bool := decide (1 ≤ c) && hold n lv c
theorem cst_len {p : Nat → Bool} (h0 : p 0 = false) : ∀ m, (cst p m).length ≤ m - 1 := by
  intro m
  induction m with
  | zero => simp [cst]
  | succ m ih =>
    rw [cst]
    split
    · rename_i h
      rw [List.length_append]
      have hm : m ≠ 0 := fun e => by rw [e, h0] at h; exact absurd h (by decide)
      simp only [List.length_cons, List.length_nil]
      omega
    · omega
theorem cst_mem {p : Nat → Bool} {c : Nat} : ∀ m, c ∈ cst p m ↔ (c < m ∧ p c = true) := by
  intro m
  induction m with
  | zero => simp [cst]
  | succ m ih =>
    rw [cst]
    split
    · rename_i h
      rw [List.mem_append, ih, List.mem_singleton]
      constructor
      · rintro (q | rfl)
        · exact ⟨by omega, q.2⟩
        · exact ⟨by omega, h⟩
      · intro q
        by_cases e : c = m
        · exact Or.inr e
        · exact Or.inl ⟨by omega, q.2⟩
    · rename_i h
      rw [ih]
      constructor
      · intro q
        exact ⟨by omega, q.2⟩
      · intro q
        by_cases e : c = m
        · rw [e] at q
          exact absurd q.2 h
        · exact ⟨by omega, q.2⟩
def orL : List Nat → Nat
  | [] => 0
  | a :: t => orL t ||| a
def aloneTo (sv : Nat → Nat) (i k : Nat) : Bool := decide (∀ k', k' < k → i < k' → ¬ sv i &&& sv k' = sv i)
def lgt (sv : Nat → Nat) (cnt : Nat) : Nat → List Nat
  | 0 => []
  | i + 1 => if aloneTo sv i cnt = true then lgt sv cnt i ++ [sv i] else lgt sv cnt i
theorem lgt_len (sv : Nat → Nat) (cnt : Nat) : ∀ i, (lgt sv cnt i).length ≤ i := by
  intro i
  induction i with
  | zero => simp [lgt]
  | succ i ih =>
    rw [lgt]
    split
    · rw [List.length_append]
      simp only [List.length_cons, List.length_nil]
      omega
    · omega
theorem no_dec (t : Nat) : nI t + Int32.ofInt (-1) = no t := by
  cases t with
  | zero => decide
  | succ t => exact pk_m1 t
theorem no_lt0 {t : Nat} (h : t < 2 ^ 31) : no t < 0 ↔ t = 0 := by
  rw [i_lt0, no_toInt h]
  omega
theorem getD_app_lt {l t : List Nat} {i : Nat} (h : i < l.length) : (l ++ t).getD i 0 = l.getD i 0 := by
  simp [List.getD_eq_getElem?_getD, List.getElem?_append_left h]
theorem getD_app_at {l : List Nat} {x : Nat} : (l ++ [x]).getD l.length 0 = x := by
  simp [List.getD_eq_getElem?_getD]
section S1
variable {l : Launch} {D : va_G} {h : Nat → Nat} {d : Nat → ClassId} {w : Wd} {n : Nat} {E : Nat → Nat}
set_option maxHeartbeats 1000000 in
theorem m1_isClosed (ok : Ok1 n E w) {pk sv : Nat → Nat} {size cnt : Nat} (hsz5 : size ≤ 5) (hcnt : cnt ≤ 31) (hpk : ∀ i, i < size → w 5 i = nI (pk i) ∧ pk i < cnt) (hsv : ∀ j, j < cnt → w 2 j = nI (sv j) ∧ sv j < 32) : Mi l D (K1 h d) yX1_isClosed cX1_isClosed 4 2 (some .boolean) [.ref (h 0), .int (nI size)] w (fun r w' => (∀ q, q ≠ 7 → q ≠ 10 → w' q = w q) ∧ (∀ j, j ≠ 3 → w' 10 j = w 10 j) ∧ w' 10 3 = nI size ∧ (∀ i, i < size → w' 7 i = nI (sv (pk i))) ∧ r = bI (clo E n (fun i => sv (pk i)) size)) := by
  have ok' := ok
  obtain ⟨h2, h5, hE3, hE, hn⟩ := ok
  have hp := p2_le h5
  refine Mi.of (by decide) rfl (by simp [Value.category]) (Nat.le_of_ble_eq_true rfl) (fun X R => ?_)
  have L2 : ∀ w2, (∀ q, q ≠ 7 → q ≠ 10 → w2 q = w q) → (∀ j, j ≠ 3 → w2 10 j = w 10 j) → w2 10 3 = nI size → (∀ i, i < size → w2 7 i = nI (sv (pk i))) → ∀ m k, k + m = 2 * size → (∀ j, j < k → fwF (fun i => sv (pk i)) (imN E (sv (pk (j / 2))) (j % 2) n) size 0 ≠ 0) → J X (K1 h d) cX1_isClosed 4 2 37 [.ref (h 0), .int (nI size), .int (nI k)] [] w2 := by
    intro w2 f1 f2 f3 f4 m
    have ok2 : Ok1 n E w2 := ok'.fr (f1 0 (by decide) (by decide)) (f2 0 (by decide))
    induction m with
    | zero =>
      intro k hk hall
      refine j_il2n (pc := 37) dX1_isClosed_37 ?_
      refine j_iconst (pc := 38) (nI 2) dX1_isClosed_38 (by decide) ?_
      refine j_il1n (pc := 39) dX1_isClosed_39 ?_
      first | with_reducible refine j_imulN (pc := 40) dX1_isClosed_40 ?_ | refine j_imul (pc := 40) dX1_isClosed_40 ?_
      refine j_icmp_geN (pc := 41) 77 dX1_isClosed_41 (by decide) (by omega) (by omega) (fun c1 => ?_) (fun c1 => ?_)
      · refine j_iconst (pc := 77) (nI 1) dX1_isClosed_77 (by decide) ?_
        exact j_zret R dX1_isClosed_78 true (by first | rfl | decide) (⟨f1, f2, f3, f4, by rw [clo, decide_eq_true (fun j hj => hall j (by omega))]⟩)
      · omega
    | succ m ih =>
      intro k hk hall
      have hb := hsv _ (hpk (k / 2) (by omega)).2
      have hi := imN_lt hE3 (sv (pk (k / 2))) (k % 2) n
      refine j_il2n (pc := 37) dX1_isClosed_37 ?_
      refine j_iconst (pc := 38) (nI 2) dX1_isClosed_38 (by decide) ?_
      refine j_il1n (pc := 39) dX1_isClosed_39 ?_
      first | with_reducible refine j_imulN (pc := 40) dX1_isClosed_40 ?_ | refine j_imul (pc := 40) dX1_isClosed_40 ?_
      refine j_icmp_geN (pc := 41) 77 dX1_isClosed_41 (by decide) (by omega) (by omega) (fun c1 => ?_) (fun c1 => ?_)
      · omega
      refine j_al0n (pc := 44) dX1_isClosed_44 ?_
      refine j_al0n (pc := 45) dX1_isClosed_45 ?_
      refine g1_cover (pc := 46) dX1_isClosed_46 ?_
      refine j_il2n (pc := 49) dX1_isClosed_49 ?_
      refine j_iconst (pc := 50) (nI 1) dX1_isClosed_50 (by decide) ?_
      refine j_ishrN (pc := 51) dX1_isClosed_51 (by omega) (by omega) ?_
      rw [show k / 2 ^ 1 = k / 2 from rfl]
      refine al1_cover (pc := 52) dX1_isClosed_52 (by omega) (f4 _ (by omega)) ?_
      refine j_il2n (pc := 53) dX1_isClosed_53 ?_
      refine j_iconst (pc := 54) (nI 1) dX1_isClosed_54 (by decide) ?_
      first | with_reducible refine j_iandN (pc := 55) dX1_isClosed_55 ?_ | refine j_iand (pc := 55) dX1_isClosed_55 ?_
      rw [Nat.and_one_is_mod]
      refine cl1_image (pc := 56) dX1_isClosed_56 (m1_image ok2 hb.2 (by omega)) (fun r w' e => ?_)
      obtain ⟨rfl, rfl⟩ := e
      first | refine j_st3n_s (pc := 59) dX1_isClosed_59 ?_ | refine j_st3n_a (pc := 59) dX1_isClosed_59 ?_
      refine j_al0n (pc := 60) dX1_isClosed_60 ?_
      refine j_il3n (pc := 61) dX1_isClosed_61 ?_
      refine cl1_firstWith (pc := 62) dX1_isClosed_62 (m1_firstWith (cv := fun i => sv (pk i)) (by omega) f3 (fun i hi => ⟨f4 i hi, (hsv _ (hpk i hi).2).2⟩) (by omega)) (fun r w' e => ?_)
      obtain ⟨rfl, rfl⟩ := e
      have hfw : fwF (fun i => sv (pk i)) (imN E (sv (pk (k / 2))) (k % 2) n) size 0 ≤ 5 := by
        have key : ∀ (cv : Nat → Nat) (set m i : Nat), fwF cv set m i ≤ m + i := by
          intro cv set m
          induction m with
          | zero => intro i; simp [fwF]
          | succ m ih =>
            intro i
            rw [fwF]
            split
            · omega
            · have := ih (i + 1)
              omega
        have := key (fun i => sv (pk i)) (imN E (sv (pk (k / 2))) (k % 2) n) size 0
        omega
      refine j_iconst (pc := 65) (-1) dX1_isClosed_65 (by decide) ?_
      refine j_icmp_ne (pc := 66) 71 dX1_isClosed_66 (by decide) (fun c2 => ?_) (fun c2 => ?_)
      · rw [no_m1 (by omega)] at c2
        refine j_inc2N (pc := 71) dX1_isClosed_71 ?_
        refine j_goto (pc := 74) 37 dX1_isClosed_74 (by decide) ?_
        refine j_wk (ih (k + 1) (by omega) (fun j hj => ?_)) ⟨_, rfl⟩
        by_cases e : j = k
        · rw [e]
          exact c2
        · exact hall j (by omega)
      · rw [no_m1 (by omega)] at c2
        refine j_iconst (pc := 69) (nI 0) dX1_isClosed_69 (by decide) ?_
        exact j_zret R dX1_isClosed_70 false (by first | rfl | decide) (⟨f1, f2, f3, f4, by rw [clo, decide_eq_false (fun q => q k (by omega) c2)]⟩)
  have L1 : ∀ m i w2, i + m = size → (∀ q, q ≠ 7 → q ≠ 10 → w2 q = w q) → (∀ j, j ≠ 3 → w2 10 j = w 10 j) → w2 10 3 = nI size → (∀ j, j < i → w2 7 j = nI (sv (pk j))) → J X (K1 h d) cX1_isClosed 4 2 7 [.ref (h 0), .int (nI size), .int (nI i)] [] w2 := by
    intro m
    induction m with
    | zero =>
      intro i w2 hi f1 f2 f3 f4
      refine j_il2n (pc := 7) dX1_isClosed_7 ?_
      refine j_il1n (pc := 8) dX1_isClosed_8 ?_
      refine j_icmp_geN (pc := 9) 35 dX1_isClosed_9 (by decide) (by omega) (by omega) (fun c1 => ?_) (fun c1 => ?_)
      · refine j_iconst (pc := 35) (nI 0) dX1_isClosed_35 (by decide) ?_
        first | refine j_st2n_s (pc := 36) dX1_isClosed_36 ?_ | refine j_st2n_a (pc := 36) dX1_isClosed_36 ?_
        exact L2 w2 f1 f2 f3 (fun j hj => f4 j (by omega)) (2 * size) 0 (by omega) (fun j hj => by omega)
      · omega
    | succ m ih =>
      intro i w2 hi f1 f2 f3 f4
      have hb := (hpk i (by omega))
      refine j_il2n (pc := 7) dX1_isClosed_7 ?_
      refine j_il1n (pc := 8) dX1_isClosed_8 ?_
      refine j_icmp_geN (pc := 9) 35 dX1_isClosed_9 (by decide) (by omega) (by omega) (fun c1 => ?_) (fun c1 => ?_)
      · omega
      refine j_al0n (pc := 12) dX1_isClosed_12 ?_
      refine g1_cover (pc := 13) dX1_isClosed_13 ?_
      refine j_il2n (pc := 16) dX1_isClosed_16 ?_
      refine j_al0n (pc := 17) dX1_isClosed_17 ?_
      refine g1_sets (pc := 18) dX1_isClosed_18 ?_
      refine j_al0n (pc := 21) dX1_isClosed_21 ?_
      refine g1_pick (pc := 22) dX1_isClosed_22 ?_
      refine j_il2n (pc := 25) dX1_isClosed_25 ?_
      refine al1_pick (pc := 26) dX1_isClosed_26 (by omega) ((congrFun (f1 5 (by decide) (by decide)) _).trans hb.1) ?_
      refine al1_sets (pc := 27) dX1_isClosed_27 (by omega) ((congrFun (f1 2 (by decide) (by decide)) _).trans (hsv _ hb.2).1) ?_
      refine as1_cover (pc := 28) dX1_isClosed_28 (by omega) ?_
      refine j_inc2N (pc := 29) dX1_isClosed_29 ?_
      refine j_goto (pc := 32) 7 dX1_isClosed_32 (by decide) ?_
      refine ih (i + 1) _ (by omega) (fun q q1 q2 => by rw [wset_i _ _ q1]; exact f1 q q1 q2) (fun j hj => by rw [wset_i _ _ (by decide)]; exact f2 j hj) (by rw [wset_i _ _ (by decide)]; exact f3) (fun j hj => ?_)
      by_cases e : j = i
      · rw [e, wset_s]
      · rw [wset_k _ _ e]
        exact f4 j (by omega)
  refine j_al0n (pc := 0) dX1_isClosed_0 ?_
  refine j_il1n (pc := 1) dX1_isClosed_1 ?_
  refine p1_coverCount (pc := 2) dX1_isClosed_2 ?_
  refine j_iconst (pc := 5) (nI 0) dX1_isClosed_5 (by decide) ?_
  first | refine j_st2n_s (pc := 6) dX1_isClosed_6 ?_ | refine j_st2n_a (pc := 6) dX1_isClosed_6 ?_
  exact L1 size 0 _ (by omega) (fun q q1 q2 => by rw [wset_i _ _ q2]) (fun j hj => by rw [wset_k _ _ hj]) (wset_s _ _ _ _) (fun j hj => by omega)
set_option maxHeartbeats 1000000 in
theorem m1_buildClasses (ok : Ok1 n E w) {cv : Nat → Nat} {cnt : Nat} (hcnt : cnt ≤ 5) (hc3 : w 10 3 = nI cnt) (hcv : ∀ i, i < cnt → w 7 i = nI (cv i) ∧ cv i < 32) : Mv l D (K1 h d) yX1_buildClasses cX1_buildClasses 3 2 [.ref (h 0)] w (fun w' => (∀ q, q ≠ 8 → q ≠ 9 → w' q = w q) ∧ ∀ k, k < 2 * cnt → w' 8 k = no (fwF cv (imN E (cv (k / 2)) (k % 2) n) cnt 0) ∧ w' 9 k = no (soF E (cv (k / 2)) (k % 2) n 0)) := by
  have ok' := ok
  obtain ⟨h2, h5, hE3, hE, hn⟩ := ok
  have hp := p2_le h5
  refine Mv.of (by decide) rfl (by simp [Value.category]) (Nat.le_of_ble_eq_true rfl) (fun X R => ?_)
  have L : ∀ m k w2, k + m = 2 * cnt → (∀ q, q ≠ 8 → q ≠ 9 → w2 q = w q) → (∀ j, j < k → w2 8 j = no (fwF cv (imN E (cv (j / 2)) (j % 2) n) cnt 0) ∧ w2 9 j = no (soF E (cv (j / 2)) (j % 2) n 0)) → J X (K1 h d) cX1_buildClasses 3 2 2 [.ref (h 0), .int (nI k)] [] w2 := by
    intro m
    induction m with
    | zero =>
      intro k w2 hk f1 f2
      have hc : w2 10 3 = nI cnt := by rw [f1 10 (by decide) (by decide)]; exact hc3
      refine j_il1n (pc := 2) dX1_buildClasses_2 ?_
      refine j_iconst (pc := 3) (nI 2) dX1_buildClasses_3 (by decide) ?_
      refine j_al0n (pc := 4) dX1_buildClasses_4 ?_
      refine g1_coverCount (pc := 5) dX1_buildClasses_5 (by first | assumption | rfl) ?_
      first | with_reducible refine j_imulN (pc := 8) dX1_buildClasses_8 ?_ | refine j_imul (pc := 8) dX1_buildClasses_8 ?_
      refine j_icmp_geN (pc := 9) 66 dX1_buildClasses_9 (by decide) (by omega) (by omega) (fun c1 => ?_) (fun c1 => ?_)
      · exact j_vret R dX1_buildClasses_66 (⟨f1, fun j hj => f2 j (by omega)⟩)
      · omega
    | succ m ih =>
      intro k w2 hk f1 f2
      have hc : w2 10 3 = nI cnt := by rw [f1 10 (by decide) (by decide)]; exact hc3
      have ok2 : Ok1 n E w2 := ok'.fr (f1 0 (by decide) (by decide)) (by rw [f1 10 (by decide) (by decide)])
      have hv := hcv (k / 2) (by omega)
      have hv7 : w2 7 (k / 2) = nI (cv (k / 2)) := by rw [f1 7 (by decide) (by decide)]; exact hv.1
      have hi := imN_lt hE3 (cv (k / 2)) (k % 2) n
      refine j_il1n (pc := 2) dX1_buildClasses_2 ?_
      refine j_iconst (pc := 3) (nI 2) dX1_buildClasses_3 (by decide) ?_
      refine j_al0n (pc := 4) dX1_buildClasses_4 ?_
      refine g1_coverCount (pc := 5) dX1_buildClasses_5 (by first | assumption | rfl) ?_
      first | with_reducible refine j_imulN (pc := 8) dX1_buildClasses_8 ?_ | refine j_imul (pc := 8) dX1_buildClasses_8 ?_
      refine j_icmp_geN (pc := 9) 66 dX1_buildClasses_9 (by decide) (by omega) (by omega) (fun c1 => ?_) (fun c1 => ?_)
      · omega
      refine j_al0n (pc := 12) dX1_buildClasses_12 ?_
      refine j_al0n (pc := 13) dX1_buildClasses_13 ?_
      refine g1_cover (pc := 14) dX1_buildClasses_14 ?_
      refine j_il1n (pc := 17) dX1_buildClasses_17 ?_
      refine j_iconst (pc := 18) (nI 1) dX1_buildClasses_18 (by decide) ?_
      refine j_ishrN (pc := 19) dX1_buildClasses_19 (by omega) (by omega) ?_
      rw [show k / 2 ^ 1 = k / 2 from rfl]
      refine al1_cover (pc := 20) dX1_buildClasses_20 (by omega) (hv7) ?_
      refine j_il1n (pc := 21) dX1_buildClasses_21 ?_
      refine j_iconst (pc := 22) (nI 1) dX1_buildClasses_22 (by decide) ?_
      first | with_reducible refine j_iandN (pc := 23) dX1_buildClasses_23 ?_ | refine j_iand (pc := 23) dX1_buildClasses_23 ?_
      rw [Nat.and_one_is_mod]
      refine cl1_image (pc := 24) dX1_buildClasses_24 (m1_image ok2 hv.2 (by omega)) (fun r w' e => ?_)
      obtain ⟨rfl, rfl⟩ := e
      first | refine j_st2n_s (pc := 27) dX1_buildClasses_27 ?_ | refine j_st2n_a (pc := 27) dX1_buildClasses_27 ?_
      refine j_al0n (pc := 28) dX1_buildClasses_28 ?_
      refine g1_nextClass (pc := 29) dX1_buildClasses_29 ?_
      refine j_il1n (pc := 32) dX1_buildClasses_32 ?_
      refine j_al0n (pc := 33) dX1_buildClasses_33 ?_
      refine j_il2n (pc := 34) dX1_buildClasses_34 ?_
      refine cl1_firstWith (pc := 35) dX1_buildClasses_35 (m1_firstWith (cv := cv) hcnt hc (fun i hi => ⟨by rw [f1 7 (by decide) (by decide)]; exact (hcv i hi).1, (hcv i hi).2⟩) (by omega)) (fun r w' e => ?_)
      obtain ⟨rfl, rfl⟩ := e
      refine as1_nextClass (pc := 38) dX1_buildClasses_38 (by omega) ?_
      refine j_al0n (pc := 39) dX1_buildClasses_39 ?_
      refine g1_classOut (pc := 40) dX1_buildClasses_40 ?_
      refine j_il1n (pc := 43) dX1_buildClasses_43 ?_
      refine j_al0n (pc := 44) dX1_buildClasses_44 ?_
      refine j_al0n (pc := 45) dX1_buildClasses_45 ?_
      refine g1_cover (pc := 46) dX1_buildClasses_46 ?_
      refine j_il1n (pc := 49) dX1_buildClasses_49 ?_
      refine j_iconst (pc := 50) (nI 1) dX1_buildClasses_50 (by decide) ?_
      refine j_ishrN (pc := 51) dX1_buildClasses_51 (by omega) (by omega) ?_
      rw [show k / 2 ^ 1 = k / 2 from rfl]
      have ok3 := ok2.fr (w' := wset w2 8 k (no (fwF cv (imN E (cv (k / 2)) (k % 2) n) cnt 0))) (by rw [wset_i _ _ (by decide)]) (by rw [wset_i _ _ (by decide)])
      refine al1_cover (pc := 52) dX1_buildClasses_52 (by omega) ((congrFun (wset_i _ _ (by decide)) _).trans hv7) ?_
      refine j_il1n (pc := 53) dX1_buildClasses_53 ?_
      refine j_iconst (pc := 54) (nI 1) dX1_buildClasses_54 (by decide) ?_
      first | with_reducible refine j_iandN (pc := 55) dX1_buildClasses_55 ?_ | refine j_iand (pc := 55) dX1_buildClasses_55 ?_
      rw [Nat.and_one_is_mod]
      refine cl1_sharedOutput (pc := 56) dX1_buildClasses_56 (m1_sharedOutput ok3 hv.2 (by omega)) (fun r w' e => ?_)
      obtain ⟨rfl, rfl⟩ := e
      refine as1_classOut (pc := 59) dX1_buildClasses_59 (by omega) ?_
      refine j_inc1N (pc := 60) dX1_buildClasses_60 ?_
      refine j_goto (pc := 63) 2 dX1_buildClasses_63 (by decide) ?_
      refine j_wk (ih (k + 1) _ (by omega) (fun q q1 q2 => by rw [wset_i _ _ q2, wset_i _ _ q1]; exact f1 q q1 q2) (fun j hj => ?_)) ⟨_, rfl⟩
      by_cases e : j = k
      · subst e
        exact ⟨by rw [wset_i _ _ (by decide), wset_s], by rw [wset_s]⟩
      · exact ⟨by rw [wset_i _ _ (by decide), wset_k _ _ e]; exact (f2 j (by omega)).1, by rw [wset_k _ _ e, wset_i _ _ (by decide)]; exact (f2 j (by omega)).2⟩
  refine j_iconst (pc := 0) (nI 0) dX1_buildClasses_0 (by decide) ?_
  first | refine j_st1n_s (pc := 1) dX1_buildClasses_1 ?_ | refine j_st1n_a (pc := 1) dX1_buildClasses_1 ?_
  exact L (2 * cnt) 0 w (by omega) (fun _ _ _ => rfl) (fun j hj => by omega)
set_option maxHeartbeats 1000000 in
theorem m1_listSets (ok : Ok1 n E w) {lv : Nat → Nat → Nat} (hlv : ∀ s t, s < n → t < n → w 1 (5 * s + t) = nI (lv s t)) (hlb : ∀ s t, lv s t ≤ 1000) : Mv l D (K1 h d) yX1_listSets cX1_listSets 2 1 [.ref (h 0)] w (fun w' => (∀ q, q ≠ 2 → q ≠ 3 → q ≠ 10 → w' q = w q) ∧ (∀ j, j ≠ 1 → w' 10 j = w 10 j) ∧ w' 10 1 = nI (cst (hp n lv) (2 ^ n)).length ∧ (∀ i, i < (cst (hp n lv) (2 ^ n)).length → w' 2 i = nI ((cst (hp n lv) (2 ^ n)).getD i 0)) ∧ ∀ i, i ≤ (cst (hp n lv) (2 ^ n)).length → w' 3 i = nI (orL ((cst (hp n lv) (2 ^ n)).drop i))) := by
  have ok' := ok
  obtain ⟨h2, h5, hE3, hE, hn⟩ := ok
  have hp2 := p2_le h5
  have h4 := p2_ge h2
  refine Mv.of (by decide) rfl (by simp [Value.category]) (Nat.le_of_ble_eq_true rfl) (fun X R => ?_)
  have hp0 : hp n lv 0 = false := rfl
  have L2 : ∀ cs : List Nat, cs.length ≤ 31 → ∀ t w2, t ≤ cs.length → (∀ q, q ≠ 3 → w2 q = (fun (x : Nat) => w2 x) q) → (∀ i, i < cs.length → w2 2 i = nI (cs.getD i 0)) → (∀ i, t ≤ i → i ≤ cs.length → w2 3 i = nI (orL (cs.drop i))) → (∀ w3, (∀ q, q ≠ 3 → w3 q = w2 q) → (∀ i, i ≤ cs.length → w3 3 i = nI (orL (cs.drop i))) → J X (K1 h d) cX1_listSets 2 1 99 [.ref (h 0), .int (no 0)] [] w3) → J X (K1 h d) cX1_listSets 2 1 68 [.ref (h 0), .int (no t)] [] w2 := by
    intro cs hcs t
    induction t with
    | zero =>
      intro w2 ht f0 f1 f2 fin
      refine j_il1n (pc := 68) dX1_listSets_68 ?_
      refine j_if_lt (pc := 69) 99 dX1_listSets_69 (by decide) (fun c1 => ?_) (fun c1 => ?_)
      · exact fin w2 (fun _ _ => rfl) (fun i hi => f2 i (by omega) hi)
      · exact absurd ((no_lt0 (by decide)).mpr rfl) c1
    | succ t ih =>
      intro w2 ht f0 f1 f2 fin
      refine j_il1n (pc := 68) dX1_listSets_68 ?_
      refine j_if_lt (pc := 69) 99 dX1_listSets_69 (by decide) (fun c1 => ?_) (fun c1 => ?_)
      · rw [no_lt0 (by omega)] at c1
        omega
      simp only [no]
      refine j_al0n (pc := 72) dX1_listSets_72 ?_
      refine g1_later (pc := 73) dX1_listSets_73 ?_
      refine j_il1n (pc := 76) dX1_listSets_76 ?_
      refine j_al0n (pc := 77) dX1_listSets_77 ?_
      refine g1_later (pc := 78) dX1_listSets_78 ?_
      refine j_il1n (pc := 81) dX1_listSets_81 ?_
      refine j_iconst (pc := 82) (nI 1) dX1_listSets_82 (by decide) ?_
      first | with_reducible refine j_iaddN (pc := 83) dX1_listSets_83 ?_ | refine j_iadd (pc := 83) dX1_listSets_83 ?_
      refine al1_later (pc := 84) dX1_listSets_84 (by omega) (f2 _ (by omega) (by omega)) ?_
      refine j_al0n (pc := 85) dX1_listSets_85 ?_
      refine g1_sets (pc := 86) dX1_listSets_86 ?_
      refine j_il1n (pc := 89) dX1_listSets_89 ?_
      refine al1_sets (pc := 90) dX1_listSets_90 (by omega) (f1 _ (by omega)) ?_
      first | with_reducible refine j_iorN (pc := 91) dX1_listSets_91 ?_ | refine j_ior (pc := 91) dX1_listSets_91 ?_
      refine as1_later (pc := 92) dX1_listSets_92 (by omega) ?_
      refine j_inc1 (pc := 93) (no t) dX1_listSets_93 (no_dec t) ?_
      refine j_goto (pc := 96) 68 dX1_listSets_96 (by decide) ?_
      have hd : cs.drop t = cs.getD t 0 :: cs.drop (t + 1) := by
        rw [List.drop_eq_getElem_cons (by omega), List.getD_eq_getElem?_getD, List.getElem?_eq_getElem (by omega)]
        rfl
      refine ih _ (by omega) (fun _ _ => rfl) (fun i hi => by rw [wset_i _ _ (by decide)]; exact f1 i hi) (fun i h1 h3 => ?_) (fun w3 g1 g2 => fin w3 (fun q hq => by rw [g1 q hq, wset_i _ _ hq]) g2)
      by_cases e : i = t
      · rw [e, wset_s, hd, orL]
      · rw [wset_k _ _ e]
        exact f2 i (by omega) h3
  have L1 : ∀ m c w2, c + m = 2 ^ n → 1 ≤ c → (∀ q, q ≠ 2 → q ≠ 10 → w2 q = w q) → (∀ j, j ≠ 1 → w2 10 j = w 10 j) → w2 10 1 = nI (cst (hp n lv) c).length → (∀ i, i < (cst (hp n lv) c).length → w2 2 i = nI ((cst (hp n lv) c).getD i 0)) → J X (K1 h d) cX1_listSets 2 1 7 [.ref (h 0), .int (nI c)] [] w2 := by
    intro m
    induction m with
    | zero =>
      intro c w2 hc h1 f1 f2 f3 f4
      obtain rfl : c = 2 ^ n := by omega
      have hn2 : w2 10 0 = nI n := by rw [f2 0 (by decide)]; exact hn
      have hlen := cst_len hp0 (2 ^ n)
      refine j_il1n (pc := 7) dX1_listSets_7 ?_
      refine j_iconst (pc := 8) (nI 1) dX1_listSets_8 (by decide) ?_
      refine j_al0n (pc := 9) dX1_listSets_9 ?_
      refine g1_n (pc := 10) dX1_listSets_10 (by first | assumption | rfl) ?_
      refine j_ishl1 (pc := 13) dX1_listSets_13 (by omega) ?_
      refine j_icmp_geN (pc := 14) 51 dX1_listSets_14 (by decide) (by omega) (by omega) (fun c1 => ?_) (fun c1 => ?_)
      · refine j_al0n (pc := 51) dX1_listSets_51 ?_
        refine g1_later (pc := 52) dX1_listSets_52 ?_
        refine j_al0n (pc := 55) dX1_listSets_55 ?_
        refine g1_setCount (pc := 56) dX1_listSets_56 (by first | assumption | rfl) ?_
        refine j_iconst (pc := 59) (nI 0) dX1_listSets_59 (by decide) ?_
        refine as1_later (pc := 60) dX1_listSets_60 (by omega) ?_
        refine j_al0n (pc := 61) dX1_listSets_61 ?_
        refine g1_setCount (pc := 62) dX1_listSets_62 ((congrFun (wset_i _ _ (by decide)) _).trans f3) ?_
        refine j_iconst (pc := 65) (nI 1) dX1_listSets_65 (by decide) ?_
        refine j_isub (pc := 66) dX1_listSets_66 (j_topi (no_sub _) ?_)
        first | refine j_st1n_s (pc := 67) dX1_listSets_67 ?_ | refine j_st1n_a (pc := 67) dX1_listSets_67 ?_
        refine L2 (cst (hp n lv) (2 ^ n)) (by omega) _ _ (Nat.le_refl _) (fun _ _ => rfl) (fun i hi => by rw [wset_i _ _ (by decide)]; exact f4 i hi) (fun i h3 h4 => ?_) (fun w3 g1 g2 => ?_)
        · obtain rfl : i = (cst (hp n lv) (2 ^ n)).length := by omega
          rw [wset_s, List.drop_length]
          rfl
        · exact j_vret R dX1_listSets_99 (⟨fun q q1 q2 q3 => by rw [g1 q q2, wset_i _ _ q2]; exact f1 q q1 q3, fun j hj => by rw [g1 10 (by decide), wset_i _ _ (by decide)]; exact f2 j hj, by rw [g1 10 (by decide), wset_i _ _ (by decide)]; exact f3, fun i hi => by rw [g1 2 (by decide), wset_i _ _ (by decide)]; exact f4 i hi, g2⟩)
      · omega
    | succ m ih =>
      intro c w2 hc h1 f1 f2 f3 f4
      have hn2 : w2 10 0 = nI n := by rw [f2 0 (by decide)]; exact hn
      have ok2 : Ok1 n E w2 := ok'.fr (f1 0 (by decide) (by decide)) (f2 0 (by decide))
      have hlen := cst_len hp0 c
      have hpc : hp n lv c = hold n lv c := by simp [hp, h1]
      refine j_il1n (pc := 7) dX1_listSets_7 ?_
      refine j_iconst (pc := 8) (nI 1) dX1_listSets_8 (by decide) ?_
      refine j_al0n (pc := 9) dX1_listSets_9 ?_
      refine g1_n (pc := 10) dX1_listSets_10 (by first | assumption | rfl) ?_
      refine j_ishl1 (pc := 13) dX1_listSets_13 (by omega) ?_
      refine j_icmp_geN (pc := 14) 51 dX1_listSets_14 (by decide) (by omega) (by omega) (fun c1 => ?_) (fun c1 => ?_)
      · omega
      refine j_al0n (pc := 17) dX1_listSets_17 ?_
      refine j_il1n (pc := 18) dX1_listSets_18 ?_
      refine cl1_holdsTogether (pc := 19) dX1_listSets_19 (m1_holdsTogether ok2 (lv := lv) (fun s t hs ht => by rw [f1 1 (by decide) (by decide)]; exact hlv s t hs ht) hlb (by omega)) (fun r w' e => ?_)
      obtain ⟨rfl, rfl⟩ := e
      refine j_if_eqB (pc := 22) 45 dX1_listSets_22 (by decide) (fun c2 => ?_) (fun c2 => ?_)
      · refine j_inc1N (pc := 45) dX1_listSets_45 ?_
        refine j_goto (pc := 48) 7 dX1_listSets_48 (by decide) ?_
        have e : cst (hp n lv) (c + 1) = cst (hp n lv) c := by rw [cst, if_neg (by rw [hpc, c2]; decide)]
        exact ih (c + 1) w2 (by omega) (by omega) f1 f2 (by rw [e]; exact f3) (by rw [e]; exact f4)
      · refine j_al0n (pc := 25) dX1_listSets_25 ?_
        refine g1_sets (pc := 26) dX1_listSets_26 ?_
        refine j_al0n (pc := 29) dX1_listSets_29 ?_
        refine g1_setCount (pc := 30) dX1_listSets_30 (by first | assumption | rfl) ?_
        refine j_il1n (pc := 33) dX1_listSets_33 ?_
        refine as1_sets (pc := 34) dX1_listSets_34 (by omega) ?_
        refine j_al0n (pc := 35) dX1_listSets_35 ?_
        refine j_dup (pc := 36) dX1_listSets_36 rfl ?_
        refine g1_setCount (pc := 37) dX1_listSets_37 ((congrFun (wset_i _ _ (by decide)) _).trans f3) ?_
        refine j_iconst (pc := 40) (nI 1) dX1_listSets_40 (by decide) ?_
        first | with_reducible refine j_iaddN (pc := 41) dX1_listSets_41 ?_ | refine j_iadd (pc := 41) dX1_listSets_41 ?_
        refine p1_setCount (pc := 42) dX1_listSets_42 ?_
        refine j_inc1N (pc := 45) dX1_listSets_45 ?_
        refine j_goto (pc := 48) 7 dX1_listSets_48 (by decide) ?_
        have e : cst (hp n lv) (c + 1) = cst (hp n lv) c ++ [c] := by rw [cst, if_pos (by rw [hpc, c2])]
        refine ih (c + 1) _ (by omega) (by omega) (fun q q1 q2 => by rw [wset_i _ _ q2, wset_i _ _ q1]; exact f1 q q1 q2) (fun j hj => by rw [wset_k _ _ hj, wset_i _ _ (by decide)]; exact f2 j hj) (by rw [wset_s, e, List.length_append]; rfl) (fun i hi => ?_)
        rw [e, List.length_append] at hi
        rw [wset_i _ _ (by decide), e]
        by_cases ei : i = (cst (hp n lv) c).length
        · rw [ei, wset_s, getD_app_at]
        · have hi2 : i < (cst (hp n lv) c).length := by
            simp only [List.length_cons, List.length_nil] at hi
            omega
          rw [wset_k _ _ ei, getD_app_lt hi2]
          exact f4 i hi2
  refine j_al0n (pc := 0) dX1_listSets_0 ?_
  refine j_iconst (pc := 1) (nI 0) dX1_listSets_1 (by decide) ?_
  refine p1_setCount (pc := 2) dX1_listSets_2 ?_
  refine j_iconst (pc := 5) (nI 1) dX1_listSets_5 (by decide) ?_
  first | refine j_st1n_s (pc := 6) dX1_listSets_6 ?_ | refine j_st1n_a (pc := 6) dX1_listSets_6 ?_
  exact L1 (2 ^ n - 1) 1 _ (by omega) (by omega) (fun q q1 q2 => by rw [wset_i _ _ q2]) (fun j hj => by rw [wset_k _ _ hj]) (by rw [wset_s]; rfl) (fun i hi => by simp [cst, hp0] at hi)
end S1
end
section
/-! the search, pure: index lists in order, what is still to do at a state of the search, the number of steps -/
set_option maxRecDepth 100000
def cmb : Nat → Nat → Nat → List (List Nat)
  | _, 0, _ => [[]]
  | 0, _ + 1, _ => []
  | m + 1, r + 1, a => (cmb m r (a + 1)).map (fun l => a :: l) ++ cmb m (r + 1) (a + 1)
def preL (p : Nat → Nat) (d : Nat) : List Nat := (List.range d).map p
theorem preL_succ (p : Nat → Nat) (d : Nat) : preL p (d + 1) = preL p d ++ [p d] := by
  simp [preL, List.range_succ]
theorem preL_len (p : Nat → Nat) (d : Nat) : (preL p d).length = d := by simp [preL]
theorem preL_congr {p p' : Nat → Nat} {d : Nat} (h : ∀ i, i < d → p i = p' i) : preL p d = preL p' d := by
  unfold preL
  apply List.map_congr_left
  intro i hi
  exact h i (List.mem_range.mp hi)
theorem preL_getD (p : Nat → Nat) {d i : Nat} (h : i < d) : (preL p d).getD i 0 = p i := by
  simp [preL, List.getD_eq_getElem?_getD, List.getElem?_range h]
def todo (N k : Nat) (p : Nat → Nat) : Nat → Nat → List (List Nat)
  | 0, q => cmb (N - q) k q
  | d + 1, q => (cmb (N - q) (k - (d + 1)) q).map (fun l => preL p (d + 1) ++ l) ++ todo N k p d (p d + 1)
theorem todo_congr {N k : Nat} {p p' : Nat → Nat} : ∀ d q, (∀ i, i < d → p i = p' i) → todo N k p d q = todo N k p' d q := by
  intro d
  induction d with
  | zero => intro q _; rfl
  | succ d ih =>
    intro q h
    rw [todo, todo, preL_congr h, h d (by omega), ih _ (fun i hi => h i (by omega))]
theorem cmb_nil : ∀ m r a, m < r → cmb m r a = [] := by
  intro m
  induction m with
  | zero =>
    intro r a h
    obtain ⟨r, rfl⟩ : ∃ x, r = x + 1 := ⟨r - 1, by omega⟩
    rfl
  | succ m ih =>
    intro r a h
    obtain ⟨r, rfl⟩ : ∃ x, r = x + 1 := ⟨r - 1, by omega⟩
    rw [cmb, ih r _ (by omega), ih (r + 1) _ (by omega)]
    rfl
/-- a level that is used up -/
theorem todo_back {N k d q : Nat} {p : Nat → Nat} (h : N - q < k - (d + 1)) : todo N k p (d + 1) q = todo N k p d (p d + 1) := by
  rw [todo, cmb_nil _ _ _ h]
  rfl
theorem todo_back0 {N k q : Nat} {p : Nat → Nat} (h : N - q < k) : todo N k p 0 q = [] := by
  rw [todo, cmb_nil _ _ _ h]
def pset (p : Nat → Nat) (d q : Nat) : Nat → Nat := fun i => if i = d then q else p i
theorem pset_s (p : Nat → Nat) (d q : Nat) : pset p d q d = q := by simp [pset]
theorem pset_n (p : Nat → Nat) {d q i : Nat} (h : i ≠ d) : pset p d q i = p i := by simp [pset, h]
theorem todo_split {N k d q : Nat} {p : Nat → Nat} (hq : q < N) (hd : d < k) : todo N k p d q = (cmb (N - (q + 1)) (k - (d + 1)) (q + 1)).map (fun l => preL (pset p d q) (d + 1) ++ l) ++ todo N k p d (q + 1) := by
  have hm : N - q = (N - (q + 1)) + 1 := by omega
  have e1 : preL (pset p d q) (d + 1) = preL p d ++ [q] := by
    rw [preL_succ, pset_s, preL_congr (p' := p) (fun i hi => pset_n p (by omega))]
  match d, hd, e1 with
  | 0, hd, e1 =>
    obtain ⟨r, rfl⟩ : ∃ x, k = x + 1 := ⟨k - 1, by omega⟩
    rw [e1]
    show cmb (N - q) (r + 1) q = _ ++ cmb (N - (q + 1)) (r + 1) (q + 1)
    rw [hm, cmb]
    simp [preL]
  | d + 1, hd, e1 =>
    obtain ⟨r, hr⟩ : ∃ x, k - (d + 1) = x + 1 := ⟨k - (d + 1) - 1, by omega⟩
    have hr2 : k - (d + 1 + 1) = r := by omega
    rw [e1]
    show (cmb (N - q) (k - (d + 1)) q).map (fun l => preL p (d + 1) ++ l) ++ todo N k p d (p d + 1) = _ ++ ((cmb (N - (q + 1)) (k - (d + 1)) (q + 1)).map (fun l => preL p (d + 1) ++ l) ++ todo N k p d (p d + 1))
    rw [hr, hr2, hm, cmb]
    simp [List.map_append, List.map_map, List.append_assoc]
/-- one level down -/
theorem todo_down {N k d q : Nat} {p : Nat → Nat} (hq : q < N) (hd : d < k) : todo N k p d q = todo N k (pset p d q) (d + 1) (q + 1) := by
  rw [todo_split hq hd, todo, pset_s, todo_congr (p := p) (p' := pset p d q) d (q + 1) (fun i hi => (pset_n p (by omega)).symm)]
/-- at the last level: one list, then the next -/
theorem todo_leaf {N k q : Nat} {p : Nat → Nat} (hq : q < N) (hk : 1 ≤ k) : todo N k p (k - 1) q = preL (pset p (k - 1) q) k :: todo N k p (k - 1) (q + 1) := by
  rw [todo_split hq (by omega), show k - (k - 1 + 1) = 0 by omega, show k - 1 + 1 = k by omega]
  rw [cmb]
  simp
/-- the union of sets by their numbers -/
def unl (sv : Nat → Nat) : List Nat → Nat → Nat
  | [], u => u
  | i :: t, u => unl sv t (u ||| sv i)
theorem unl_app (sv : Nat → Nat) : ∀ a b u, unl sv (a ++ b) u = unl sv b (unl sv a u) := by
  intro a
  induction a with
  | nil => intro b u; rfl
  | cons x a ih => intro b u; exact ih b _
theorem or_sub {x y z : Nat} (h1 : x ||| z = z) (h2 : y ||| z = z) : (x ||| y) ||| z = z := by rw [Nat.or_assoc, h2, h1]
theorem orL_drop {cs : List Nat} {a i : Nat} (h1 : a ≤ i) (h2 : i < cs.length) : cs.getD i 0 ||| orL (cs.drop a) = orL (cs.drop a) := by
  induction cs generalizing a i with
  | nil => simp at h2
  | cons x t ih =>
    cases a with
    | zero =>
      cases i with
      | zero =>
        show x ||| (orL t ||| x) = orL t ||| x
        rw [Nat.or_comm, Nat.or_assoc, Nat.or_self]
      | succ i =>
        have := ih (a := 0) (i := i) (Nat.zero_le _) (by simpa using h2)
        simp only [List.drop_zero] at this ⊢
        show t.getD i 0 ||| (orL t ||| x) = orL t ||| x
        rw [← Nat.or_assoc, this]
    | succ a =>
      obtain ⟨i, rfl⟩ : ∃ j, i = j + 1 := ⟨i - 1, by omega⟩
      exact ih (by omega) (by simpa using h2)
theorem cmb_mem : ∀ m r a l, l ∈ cmb m r a → ∀ i ∈ l, a ≤ i ∧ i < a + m := by
  intro m
  induction m with
  | zero =>
    intro r a l hl i hi
    cases r with
    | zero => rw [cmb, List.mem_singleton] at hl; subst hl; cases hi
    | succ r => cases hl
  | succ m ih =>
    intro r a l hl i hi
    cases r with
    | zero => rw [cmb, List.mem_singleton] at hl; subst hl; cases hi
    | succ r =>
      rw [cmb, List.mem_append] at hl
      rcases hl with hl | hl
      · obtain ⟨l', h1, rfl⟩ := List.mem_map.mp hl
        rcases List.mem_cons.mp hi with rfl | hi
        · omega
        · have := ih r (a + 1) l' h1 i hi
          omega
      · have := ih (r + 1) (a + 1) l hl i hi
        omega
theorem unl_in {cs : List Nat} {a : Nat} : ∀ (l : List Nat) (u : Nat), (∀ i ∈ l, a ≤ i ∧ i < cs.length) → unl (fun j => cs.getD j 0) l u ||| (u ||| orL (cs.drop a)) = u ||| orL (cs.drop a) := by
  intro l
  induction l with
  | nil =>
    intro u _
    show u ||| (u ||| orL (cs.drop a)) = _
    rw [← Nat.or_assoc, Nat.or_self]
  | cons i t ih =>
    intro u h
    have hi := h i List.mem_cons_self
    have e := ih (u ||| cs.getD i 0) (fun j hj => h j (List.mem_cons_of_mem _ hj))
    have e2 : u ||| cs.getD i 0 ||| orL (cs.drop a) = u ||| orL (cs.drop a) := by rw [Nat.or_assoc, orL_drop hi.1 hi.2]
    rw [e2] at e
    exact e
theorem orL_lt {n : Nat} : ∀ l : List Nat, (∀ x ∈ l, x < 2 ^ n) → orL l < 2 ^ n := by
  intro l
  induction l with
  | nil => intro _; exact Nat.two_pow_pos n
  | cons a t ih => intro h; exact Nat.or_lt_two_pow (ih (fun x hx => h x (List.mem_cons_of_mem _ hx))) (h a List.mem_cons_self)
/-- lists that can't reach the full set aren't looked at -/
theorem todo_prune {n k d q : Nat} {cs : List Nat} {p : Nat → Nat} {P : List Nat → Bool} (hcs : ∀ x ∈ cs, x < 2 ^ n) (hP : ∀ l, P l = true → unl (fun j => cs.getD j 0) l 0 = 2 ^ n - 1) (hq : q < cs.length) (hd : d < k) (hu : unl (fun j => cs.getD j 0) (preL (pset p d q) (d + 1)) 0 < 2 ^ n)
    (h : unl (fun j => cs.getD j 0) (preL (pset p d q) (d + 1)) 0 ||| orL (cs.drop (q + 1)) ≠ 2 ^ n - 1) : (todo cs.length k p d q).find? P = (todo cs.length k p d (q + 1)).find? P := by
  rw [todo_split hq hd, List.find?_append]
  have : ((cmb (cs.length - (q + 1)) (k - (d + 1)) (q + 1)).map (fun l => preL (pset p d q) (d + 1) ++ l)).find? P = none := by
    rw [List.find?_eq_none]
    intro x hx hPx
    obtain ⟨l, hl, rfl⟩ := List.mem_map.mp hx
    have e := hP _ hPx
    rw [unl_app] at e
    have hin := unl_in (cs := cs) (a := q + 1) l (unl (fun j => cs.getD j 0) (preL (pset p d q) (d + 1)) 0) (fun i hi => by
      have := cmb_mem _ _ _ l hl i hi
      omega)
    rw [e] at hin
    have hlt : unl (fun j => cs.getD j 0) (preL (pset p d q) (d + 1)) 0 ||| orL (cs.drop (q + 1)) < 2 ^ n := Nat.or_lt_two_pow hu (orL_lt _ (fun x hx => hcs x (List.mem_of_mem_drop hx)))
    have hle : 2 ^ n - 1 ≤ unl (fun j => cs.getD j 0) (preL (pset p d q) (d + 1)) 0 ||| orL (cs.drop (q + 1)) := by
      rw [← hin]
      exact Nat.left_le_or
    omega
  rw [this]
  rfl
/-- steps that a level takes: r levels below it, c sets left -/
def tq : Nat → Nat → Nat
  | 0, c => c + 1
  | r + 1, c => Nat.rec 1 (fun c' acc => 1 + tq r (c' + 1) + acc) c
theorem tq_0 (r : Nat) : tq r 0 = 1 := by cases r <;> rfl
theorem tq_s0 (c : Nat) : tq 0 (c + 1) = 1 + tq 0 c := by simp [tq]; omega
theorem tq_ss (r c : Nat) : tq (r + 1) (c + 1) = 1 + tq r (c + 1) + tq (r + 1) c := rfl
theorem tq_pos (r c : Nat) : 1 ≤ tq r c := by
  cases c with
  | zero => rw [tq_0]; exact Nat.le_refl _
  | succ c =>
    cases r with
    | zero => rw [tq_s0]; omega
    | succ r => rw [tq_ss]; omega
theorem tq_step (r c : Nat) : 1 + tq r c ≤ tq r (c + 1) := by
  cases r with
  | zero => rw [tq_s0]; exact Nat.le_refl _
  | succ r => rw [tq_ss]; omega
theorem tq_mono (r : Nat) {c c' : Nat} (h : c ≤ c') : tq r c ≤ tq r c' := by
  induction c' with
  | zero => rw [show c = 0 by omega]; exact Nat.le_refl _
  | succ c' ih =>
    by_cases e : c = c' + 1
    · rw [e]; exact Nat.le_refl _
    · have := ih (by omega)
      have := tq_step r c'
      omega
theorem tq_num : tq 0 31 ≤ 500000 ∧ tq 1 30 ≤ 500000 ∧ tq 2 29 ≤ 500000 ∧ tq 3 28 ≤ 500000 ∧ tq 4 27 ≤ 500000 := by decide +kernel
/-- steps that are left at a state of the search -/
def pot (N k : Nat) (p : Nat → Nat) : Nat → Nat → Nat
  | 0, q => tq (k - 1) (N - k + 1 - q)
  | d + 1, q => tq (k - 1 - (d + 1)) (N - k + (d + 1) + 1 - q) + pot N k p d (p d + 1)
theorem pot_congr {N k : Nat} {p p' : Nat → Nat} : ∀ d q, (∀ i, i < d → p i = p' i) → pot N k p d q = pot N k p' d q := by
  intro d
  induction d with
  | zero => intro q _; rfl
  | succ d ih =>
    intro q h
    rw [pot, pot, h d (by omega), ih _ (fun i hi => h i (by omega))]
theorem pot_next {N k d q : Nat} {p : Nat → Nat} (hq : q ≤ N - k + d) : pot N k p d (q + 1) + 1 ≤ pot N k p d q := by
  have e : N - k + d + 1 - q = (N - k + d + 1 - (q + 1)) + 1 := by omega
  cases d with
  | zero =>
    rw [pot, pot, show N - k + 1 - q = (N - k + 1 - (q + 1)) + 1 by omega]
    have := tq_step (k - 1) (N - k + 1 - (q + 1))
    omega
  | succ d =>
    rw [pot, pot, e]
    have := tq_step (k - 1 - (d + 1)) (N - k + (d + 1) + 1 - (q + 1))
    omega
theorem pot_back {N k d q : Nat} {p : Nat → Nat} : pot N k p d (p d + 1) + 1 ≤ pot N k p (d + 1) q := by
  rw [pot.eq_def N k p (d + 1) q]
  have := tq_pos (k - 1 - (d + 1)) (N - k + (d + 1) + 1 - q)
  simp only
  omega
theorem pot_down {N k d q : Nat} {p : Nat → Nat} (hq : q ≤ N - k + d) (hd : d + 1 < k) : pot N k (pset p d q) (d + 1) (q + 1) + 1 ≤ pot N k p d q := by
  have e1 : N - k + (d + 1) + 1 - (q + 1) = (N - k + d - q) + 1 := by omega
  obtain ⟨r, hr⟩ : ∃ r, k - 1 - d = r + 1 := ⟨k - 1 - d - 1, by omega⟩
  have hr2 : k - 1 - (d + 1) = r := by omega
  rw [pot, pset_s, pot_congr (p := pset p d q) (p' := p) d (q + 1) (fun i hi => pset_n p (by omega)), e1, hr2]
  cases d with
  | zero =>
    rw [pot, pot, show N - k + 1 - (q + 1) = N - k + 0 - q by omega, show N - k + 1 - q = (N - k + 0 - q) + 1 by omega, show k - 1 = r + 1 by omega, tq_ss]
    omega
  | succ d =>
    rw [pot, pot, hr, show N - k + (d + 1) + 1 - (q + 1) = N - k + (d + 1) - q by omega, show N - k + (d + 1) + 1 - q = (N - k + (d + 1) - q) + 1 by omega, tq_ss]
    omega
theorem pot_start {N k : Nat} {p : Nat → Nat} (h1 : 1 ≤ k) (h5 : k ≤ 5) (hN : N ≤ 31) (hk : k ≤ N) : pot N k p 0 0 ≤ 500000 := by
  obtain ⟨n0, n1, n2, n3, n4⟩ := tq_num
  rw [pot]
  rcases (show k = 1 ∨ k = 2 ∨ k = 3 ∨ k = 4 ∨ k = 5 by omega) with rfl | rfl | rfl | rfl | rfl
  · exact Nat.le_trans (tq_mono _ (by omega)) n0
  · exact Nat.le_trans (tq_mono _ (by omega)) n1
  · exact Nat.le_trans (tq_mono _ (by omega)) n2
  · exact Nat.le_trans (tq_mono _ (by omega)) n3
  · exact Nat.le_trans (tq_mono _ (by omega)) n4
end
section
/-! listLargest and findCover of X1 -/
set_option maxRecDepth 100000
def PP (E : Nat → Nat) (n : Nat) (cs : List Nat) (k : Nat) (l : List Nat) : Bool := decide (unl (fun j => cs.getD j 0) l 0 = 2 ^ n - 1) && clo E n (fun i => cs.getD (l.getD i 0) 0) k
theorem fwF_congr {cv cv' : Nat → Nat} {set : Nat} : ∀ m i, (∀ j, i ≤ j → j < i + m → cv j = cv' j) → fwF cv set m i = fwF cv' set m i := by
  intro m
  induction m with
  | zero => intro i _; rfl
  | succ m ih =>
    intro i h
    rw [fwF, fwF, h i (Nat.le_refl _) (by omega), ih (i + 1) (fun j h1 h2 => h j (by omega) (by omega))]
theorem clo_congr {E : Nat → Nat} {n : Nat} {cv cv' : Nat → Nat} {k : Nat} (h : ∀ i, i < k → cv i = cv' i) : clo E n cv k = clo E n cv' k := by
  unfold clo
  apply decide_eq_decide.mpr
  constructor
  · intro q j hj
    rw [← fwF_congr k 0 (fun i _ h2 => h i (by omega)), ← h (j / 2) (by omega)]
    exact q j hj
  · intro q j hj
    rw [fwF_congr k 0 (fun i _ h2 => h i (by omega)), h (j / 2) (by omega)]
    exact q j hj
theorem pot_pos (N k : Nat) (p : Nat → Nat) (d q : Nat) : 1 ≤ pot N k p d q := by
  cases d with
  | zero => rw [pot]; exact tq_pos _ _
  | succ d =>
    rw [pot]
    have := tq_pos (k - 1 - (d + 1)) (N - k + (d + 1) + 1 - q)
    omega
theorem no_inc (q : Nat) : no q + nI 1 = nI q := by
  cases q with
  | zero => decide
  | succ q => exact nI_1 q
theorem no_ge0 {t : Nat} (h : t < 2 ^ 31) : 0 ≤ no t ↔ t ≠ 0 := by
  rw [Int32.le_iff_toInt_le, no_toInt h]
  show (0 : Int) ≤ _ ↔ _
  omega
theorem unl_pset (sv : Nat → Nat) (p : Nat → Nat) (d q : Nat) : unl sv (preL (pset p d q) (d + 1)) 0 = unl sv (preL p d) 0 ||| sv q := by
  rw [preL_succ, pset_s, unl_app, preL_congr (p' := p) (fun i hi => pset_n p (by omega))]
  rfl
theorem getD_mem {cs : List Nat} {i : Nat} (h : i < cs.length) : cs.getD i 0 ∈ cs := by
  rw [List.getD_eq_getElem?_getD, List.getElem?_eq_getElem h]
  exact List.getElem_mem h
theorem unl_lt {n : Nat} {sv : Nat → Nat} : ∀ (l : List Nat) (u : Nat), u < 2 ^ n → (∀ i ∈ l, sv i < 2 ^ n) → unl sv l u < 2 ^ n := by
  intro l
  induction l with
  | nil => intro u hu _; exact hu
  | cons i t ih => intro u hu h; exact ih _ (Nat.or_lt_two_pow hu (h i List.mem_cons_self)) (fun j hj => h j (List.mem_cons_of_mem _ hj))
section S1
variable {l : Launch} {D : va_G} {h : Nat → Nat} {d : Nat → ClassId} {w : Wd} {n : Nat} {E : Nat → Nat}
set_option maxHeartbeats 1000000 in
theorem m1_listLargest {sv : Nat → Nat} {cnt : Nat} (hcnt : cnt ≤ 31) (hc1 : w 10 1 = nI cnt) (hsv : ∀ j, j < cnt → w 2 j = nI (sv j) ∧ sv j < 32) : Mv l D (K1 h d) yX1_listLargest cX1_listLargest 4 0 [.ref (h 0)] w (fun w' => (∀ q, q ≠ 4 → q ≠ 10 → w' q = w q) ∧ (∀ j, j ≠ 2 → w' 10 j = w 10 j) ∧ w' 10 2 = nI (lgt sv cnt cnt).length ∧ ∀ i, i < (lgt sv cnt cnt).length → w' 4 i = nI ((lgt sv cnt cnt).getD i 0)) := by
  refine Mv.of (by decide) rfl (by simp [Value.category]) (Nat.le_of_ble_eq_true rfl) (fun X R => ?_)
  have out : ∀ m i w2, i + m = cnt → (∀ q, q ≠ 4 → q ≠ 10 → w2 q = w q) → (∀ j, j ≠ 2 → w2 10 j = w 10 j) → w2 10 2 = nI (lgt sv cnt i).length → (∀ j, j < (lgt sv cnt i).length → w2 4 j = nI ((lgt sv cnt i).getD j 0)) → J X (K1 h d) cX1_listLargest 4 0 7 [.ref (h 0), .int (nI i)] [] w2 := by
    intro m
    induction m with
    | zero =>
      intro i w2 hi f1 f2 f3 f4
      obtain rfl : i = cnt := by omega
      have g1 : w2 10 1 = nI i := by rw [f2 1 (by decide)]; exact hc1
      refine j_il1n (pc := 7) dX1_listLargest_7 ?_
      refine j_al0n (pc := 8) dX1_listLargest_8 ?_
      refine g1_setCount (pc := 9) dX1_listLargest_9 (by first | assumption | rfl) ?_
      refine j_icmp_geN (pc := 12) 98 dX1_listLargest_12 (by decide) (by omega) (by omega) (fun c1 => ?_) (fun c1 => ?_)
      · exact j_vret R dX1_listLargest_98 (⟨f1, f2, f3, f4⟩)
      · omega
    | succ m ih =>
      intro i w2 hi f1 f2 f3 f4
      have g1 : w2 10 1 = nI cnt := by rw [f2 1 (by decide)]; exact hc1
      have g2 : ∀ j, j < cnt → w2 2 j = nI (sv j) := fun j hj => by rw [f1 2 (by decide) (by decide)]; exact (hsv j hj).1
      have hlen := lgt_len sv cnt i
      refine j_il1n (pc := 7) dX1_listLargest_7 ?_
      refine j_al0n (pc := 8) dX1_listLargest_8 ?_
      refine g1_setCount (pc := 9) dX1_listLargest_9 (by first | assumption | rfl) ?_
      refine j_icmp_geN (pc := 12) 98 dX1_listLargest_12 (by decide) (by omega) (by omega) (fun c1 => ?_) (fun c1 => ?_)
      · omega
      refine j_iconst (pc := 15) (bI true) dX1_listLargest_15 (by decide) ?_
      first | refine j_st2n_s (pc := 16) dX1_listLargest_16 ?_ | refine j_st2n_a (pc := 16) dX1_listLargest_16 ?_
      refine j_il1n (pc := 17) dX1_listLargest_17 ?_
      refine j_iconst (pc := 18) (nI 1) dX1_listLargest_18 (by decide) ?_
      first | with_reducible refine j_iaddN (pc := 19) dX1_listLargest_19 ?_ | refine j_iadd (pc := 19) dX1_listLargest_19 ?_
      first | refine j_st3n_s (pc := 20) dX1_listLargest_20 ?_ | refine j_st3n_a (pc := 20) dX1_listLargest_20 ?_
      have inn : ∀ m2 k, k + m2 = cnt → i < k → J X (K1 h d) cX1_listLargest 4 0 21 [.ref (h 0), .int (nI i), .int (bI (aloneTo sv i k)), .int (nI k)] [] w2 := by
        intro m2
        induction m2 with
        | zero =>
          intro k hk hik
          obtain rfl : k = cnt := by omega
          refine j_il3n (pc := 21) dX1_listLargest_21 ?_
          refine j_al0n (pc := 22) dX1_listLargest_22 ?_
          refine g1_setCount (pc := 23) dX1_listLargest_23 (by first | assumption | rfl) ?_
          refine j_icmp_geN (pc := 26) 63 dX1_listLargest_26 (by decide) (by omega) (by omega) (fun c2 => ?_) (fun c2 => ?_)
          · refine j_il2n (pc := 63) dX1_listLargest_63 ?_
            refine j_if_eqB (pc := 64) 92 dX1_listLargest_64 (by decide) (fun c3 => ?_) (fun c3 => ?_)
            · refine j_inc1N (pc := 92) dX1_listLargest_92 ?_
              refine j_goto (pc := 95) 7 dX1_listLargest_95 (by decide) ?_
              have e : lgt sv k (i + 1) = lgt sv k i := by rw [lgt, if_neg (by rw [c3]; decide)]
              exact j_wk (ih (i + 1) w2 (by omega) f1 f2 (by rw [e]; exact f3) (by rw [e]; exact f4)) ⟨_, rfl⟩
            · refine j_al0n (pc := 67) dX1_listLargest_67 ?_
              refine g1_largest (pc := 68) dX1_listLargest_68 ?_
              refine j_al0n (pc := 71) dX1_listLargest_71 ?_
              refine g1_largestCount (pc := 72) dX1_listLargest_72 (by first | assumption | rfl) ?_
              refine j_al0n (pc := 75) dX1_listLargest_75 ?_
              refine g1_sets (pc := 76) dX1_listLargest_76 ?_
              refine j_il1n (pc := 79) dX1_listLargest_79 ?_
              refine al1_sets (pc := 80) dX1_listLargest_80 (by omega) (g2 _ (by omega)) ?_
              refine as1_largest (pc := 81) dX1_listLargest_81 (by omega) ?_
              refine j_al0n (pc := 82) dX1_listLargest_82 ?_
              refine j_dup (pc := 83) dX1_listLargest_83 rfl ?_
              refine g1_largestCount (pc := 84) dX1_listLargest_84 ((congrFun (wset_i _ _ (by decide)) _).trans f3) ?_
              refine j_iconst (pc := 87) (nI 1) dX1_listLargest_87 (by decide) ?_
              first | with_reducible refine j_iaddN (pc := 88) dX1_listLargest_88 ?_ | refine j_iadd (pc := 88) dX1_listLargest_88 ?_
              refine p1_largestCount (pc := 89) dX1_listLargest_89 ?_
              refine j_inc1N (pc := 92) dX1_listLargest_92 ?_
              refine j_goto (pc := 95) 7 dX1_listLargest_95 (by decide) ?_
              have e : lgt sv k (i + 1) = lgt sv k i ++ [sv i] := by rw [lgt, if_pos c3]
              refine j_wk (ih (i + 1) _ (by omega) (fun q q1 q2 => by rw [wset_i _ _ q2, wset_i _ _ q1]; exact f1 q q1 q2) (fun j hj => by rw [wset_k _ _ hj, wset_i _ _ (by decide)]; exact f2 j hj) (by rw [wset_s, e, List.length_append]; rfl) (fun j hj => ?_)) ⟨_, rfl⟩
              rw [e, List.length_append] at hj
              rw [wset_i _ _ (by decide), e]
              by_cases ei : j = (lgt sv k i).length
              · rw [ei, wset_s, getD_app_at]
              · have hj2 : j < (lgt sv k i).length := by
                  simp only [List.length_cons, List.length_nil] at hj
                  omega
                rw [wset_k _ _ ei, getD_app_lt hj2]
                exact f4 j hj2
          · omega
        | succ m2 ih2 =>
          intro k hk hik
          have b1 := (hsv i (by omega)).2
          have b2 := (hsv k (by omega)).2
          have nxt : ∀ b, b = aloneTo sv i (k + 1) → J X (K1 h d) cX1_listLargest 4 0 56 [.ref (h 0), .int (nI i), .int (bI (aloneTo sv i k)), .int (nI k)] [.int (bI b)] w2 := by
            intro b e
            subst e
            first | refine j_st2n_s (pc := 56) dX1_listLargest_56 ?_ | refine j_st2n_a (pc := 56) dX1_listLargest_56 ?_
            refine j_inc3N (pc := 57) dX1_listLargest_57 ?_
            refine j_goto (pc := 60) 21 dX1_listLargest_60 (by decide) ?_
            exact ih2 (k + 1) (by omega) (by omega)
          refine j_il3n (pc := 21) dX1_listLargest_21 ?_
          refine j_al0n (pc := 22) dX1_listLargest_22 ?_
          refine g1_setCount (pc := 23) dX1_listLargest_23 (by first | assumption | rfl) ?_
          refine j_icmp_geN (pc := 26) 63 dX1_listLargest_26 (by decide) (by omega) (by omega) (fun c2 => ?_) (fun c2 => ?_)
          · omega
          refine j_il2n (pc := 29) dX1_listLargest_29 ?_
          refine j_if_eqB (pc := 30) 55 dX1_listLargest_30 (by decide) (fun c3 => ?_) (fun c3 => ?_)
          · refine j_iconst (pc := 55) (bI false) dX1_listLargest_55 (by decide) ?_
            refine nxt false (decide_eq_false (fun q => ?_)).symm
            have c3 := of_decide_eq_false c3
            exact c3 (fun k' h1 h2 => q k' (by omega) h2)
          have c3 := of_decide_eq_true c3
          refine j_al0n (pc := 33) dX1_listLargest_33 ?_
          refine g1_sets (pc := 34) dX1_listLargest_34 ?_
          refine j_il1n (pc := 37) dX1_listLargest_37 ?_
          refine al1_sets (pc := 38) dX1_listLargest_38 (by omega) (g2 _ (by omega)) ?_
          refine j_al0n (pc := 39) dX1_listLargest_39 ?_
          refine g1_sets (pc := 40) dX1_listLargest_40 ?_
          refine j_il3n (pc := 43) dX1_listLargest_43 ?_
          refine al1_sets (pc := 44) dX1_listLargest_44 (by omega) (g2 _ (by omega)) ?_
          refine j_iconst (pc := 45) (-1) dX1_listLargest_45 (by decide) ?_
          refine j_ixor (pc := 46) dX1_listLargest_46 ?_
          refine j_iand (pc := 47) dX1_listLargest_47 ?_
          refine j_if_eq (pc := 48) 55 dX1_listLargest_48 (by decide) (fun c4 => ?_) (fun c4 => ?_)
          · rw [nI_sub0 (by omega) (by omega)] at c4
            refine j_iconst (pc := 55) (bI false) dX1_listLargest_55 (by decide) ?_
            exact nxt false (decide_eq_false (fun q => q k (by omega) hik c4)).symm
          · rw [nI_sub0 (by omega) (by omega)] at c4
            refine j_iconst (pc := 51) (bI true) dX1_listLargest_51 (by decide) ?_
            refine j_goto (pc := 52) 56 dX1_listLargest_52 (by decide) ?_
            refine nxt true (decide_eq_true (fun k' h1 h2 => ?_)).symm
            by_cases e : k' = k
            · rw [e]
              exact c4
            · exact c3 k' (by omega) h2
      have e0 : aloneTo sv i (i + 1) = true := decide_eq_true (fun k' h1 h2 => by omega)
      have := inn (cnt - (i + 1)) (i + 1) (by omega) (by omega)
      rw [e0] at this
      exact this
  refine j_al0n (pc := 0) dX1_listLargest_0 ?_
  refine j_iconst (pc := 1) (nI 0) dX1_listLargest_1 (by decide) ?_
  refine p1_largestCount (pc := 2) dX1_listLargest_2 ?_
  refine j_iconst (pc := 5) (nI 0) dX1_listLargest_5 (by decide) ?_
  first | refine j_st1n_s (pc := 6) dX1_listLargest_6 ?_ | refine j_st1n_a (pc := 6) dX1_listLargest_6 ?_
  exact out cnt 0 _ (by omega) (fun q q1 q2 => by rw [wset_i _ _ q2]) (fun j hj => by rw [wset_k _ _ hj]) (by rw [wset_s]; rfl) (fun i hi => by simp [lgt] at hi)
set_option maxHeartbeats 4000000 in
theorem m1_findCover (ok : Ok1 n E w) {cs : List Nat} {k : Nat} (hk1 : 1 ≤ k) (hk5 : k ≤ 5) (hN : cs.length ≤ 31) (hkN : k ≤ cs.length) (hcs : ∀ x ∈ cs, x < 2 ^ n) (hw1 : w 10 1 = nI cs.length) (hw2 : ∀ i, i < cs.length → w 2 i = nI (cs.getD i 0)) (hw3 : ∀ i, i ≤ cs.length → w 3 i = nI (orL (cs.drop i))) : Mi l D (K1 h d) yX1_findCover cX1_findCover 6 3 (some .boolean) [.ref (h 0), .int (nI k)] w (fun r w' => (∀ q, q ≠ 5 → q ≠ 6 → q ≠ 7 → q ≠ 10 → w' q = w q) ∧ (∀ j, j ≠ 3 → w' 10 j = w 10 j) ∧ ((r = bI false ∧ (cmb cs.length k 0).find? (PP E n cs k) = none) ∨ ∃ pl, r = bI true ∧ (cmb cs.length k 0).find? (PP E n cs k) = some pl ∧ w' 10 3 = nI k ∧ ∀ i, i < k → w' 7 i = nI (cs.getD (pl.getD i 0) 0))) := by
  have ok' := ok
  obtain ⟨h2, h5, hE3, hE, hn⟩ := ok
  have hp := p2_le h5
  have hp4 := p2_ge h2
  generalize hR : (cmb cs.length k 0).find? (PP E n cs k) = Res
  have hsvb : ∀ j, j < cs.length → cs.getD j 0 < 2 ^ n := fun j hj => hcs _ (getD_mem hj)
  refine Mi.of (by decide) rfl (by simp [Value.category]) (Nat.le_of_ble_eq_true rfl) (fun X R => ?_)
  have main : ∀ m step dd q (p : Nat → Nat) w1, step + m = 500000 → pot cs.length k p dd q ≤ m → dd < k → q ≤ cs.length - k + dd + 1 → (∀ i, i < dd → p i ≤ cs.length - k + i) → (∀ q, q ≠ 5 → q ≠ 6 → q ≠ 7 → q ≠ 10 → w1 q = w q) → (∀ j, j ≠ 3 → w1 10 j = w 10 j) → (∀ i, i < dd → w1 5 i = nI (p i)) → w1 5 dd = no q → (∀ i, i < dd → w1 6 i = nI (unl (fun j => cs.getD j 0) (preL p (i + 1)) 0)) → (todo cs.length k p dd q).find? (PP E n cs k) = Res → J X (K1 h d) cX1_findCover 6 3 21 [.ref (h 0), .int (nI k), .int (nI (2 ^ n - 1)), .int (nI dd), .int (nI step)] [] w1 := by
    intro m
    induction m with
    | zero =>
      intro step dd q p w1 hs hpt
      have := pot_pos cs.length k p dd q
      omega
    | succ m ih =>
      intro step dd q p w1 hs hpt hdk hq hpb f1 f2 f3 f4 f5 hres
      have g1 : w1 10 1 = nI cs.length := by rw [f2 1 (by decide)]; exact hw1
      refine j_il4 (pc := 21) dX1_findCover_21 ?_
      refine j_ldc (pc := 23) (nI 500000) dX1_findCover_23 q159 (by decide) ?_
      refine j_icmp_geN (pc := 25) 176 dX1_findCover_25 (by decide) (by omega) (by omega) (fun c1 => ?_) (fun c1 => ?_)
      · omega
      refine j_al0n (pc := 28) dX1_findCover_28 ?_
      refine g1_pick (pc := 29) dX1_findCover_29 ?_
      refine j_il3n (pc := 32) dX1_findCover_32 ?_
      refine j_dup2 (pc := 33) dX1_findCover_33 rfl rfl ?_
      refine al1_pick (pc := 34) dX1_findCover_34 (by omega) (f4) ?_
      refine j_iconst (pc := 35) (nI 1) dX1_findCover_35 (by decide) ?_
      refine j_iadd (pc := 36) dX1_findCover_36 (j_topi (no_inc q) ?_)
      refine as1_pick (pc := 37) dX1_findCover_37 (by omega) ?_
      generalize hw' : wset w1 5 dd (nI q) = w2
      have a1 : ∀ q, q ≠ 5 → q ≠ 6 → q ≠ 7 → q ≠ 10 → w2 q = w q := fun x x1 x2 x3 x4 => by rw [← hw', wset_i _ _ x1]; exact f1 x x1 x2 x3 x4
      have a2 : ∀ j, j ≠ 3 → w2 10 j = w 10 j := fun j hj => by rw [← hw', wset_i _ _ (by decide)]; exact f2 j hj
      have a3 : ∀ i, i < dd → w2 5 i = nI (p i) := fun i hi => by rw [← hw', wset_k _ _ (by omega)]; exact f3 i hi
      have a4 : w2 5 dd = nI q := by rw [← hw', wset_s]
      have a5 : ∀ i, i < dd → w2 6 i = nI (unl (fun j => cs.getD j 0) (preL p (i + 1)) 0) := fun i hi => by rw [← hw', wset_i _ _ (by decide)]; exact f5 i hi
      have a6 : w2 10 1 = nI cs.length := by rw [a2 1 (by decide)]; exact hw1
      have a7 : ∀ i, i < cs.length → w2 2 i = nI (cs.getD i 0) := fun i hi => by rw [a1 2 (by decide) (by decide) (by decide) (by decide)]; exact hw2 i hi
      have a8 : ∀ i, i ≤ cs.length → w2 3 i = nI (orL (cs.drop i)) := fun i hi => by rw [a1 3 (by decide) (by decide) (by decide) (by decide)]; exact hw3 i hi
      refine j_al0n (pc := 38) dX1_findCover_38 ?_
      refine g1_pick (pc := 39) dX1_findCover_39 ?_
      refine j_il3n (pc := 42) dX1_findCover_42 ?_
      refine al1_pick (pc := 43) dX1_findCover_43 (by omega) (a4) ?_
      refine j_al0n (pc := 44) dX1_findCover_44 ?_
      refine g1_setCount (pc := 45) dX1_findCover_45 (by first | assumption | rfl) ?_
      refine j_il1n (pc := 48) dX1_findCover_48 ?_
      first | with_reducible refine j_isubN (pc := 49) dX1_findCover_49 (by omega) ?_ | refine j_isub (pc := 49) dX1_findCover_49 ?_
      refine j_il3n (pc := 50) dX1_findCover_50 ?_
      first | with_reducible refine j_iaddN (pc := 51) dX1_findCover_51 ?_ | refine j_iadd (pc := 51) dX1_findCover_51 ?_
      refine j_icmp_leN (pc := 52) 64 dX1_findCover_52 (by decide) (by omega) (by omega) (fun c2 => ?_) (fun c2 => ?_)
      · -- a set is taken
        have hqN : q < cs.length := by omega
        have hU : unl (fun j => cs.getD j 0) (preL (pset p dd q) (dd + 1)) 0 = unl (fun j => cs.getD j 0) (preL p dd) 0 ||| cs.getD q 0 := unl_pset _ _ _ _
        have hps : ∀ i, i < dd + 1 → pset p dd q i ≤ cs.length - k + i := fun i hi => by
          by_cases e : i = dd
          · rw [e, pset_s]; omega
          · rw [pset_n _ e]; exact hpb i (by omega)
        have hUlt : unl (fun j => cs.getD j 0) (preL (pset p dd q) (dd + 1)) 0 < 2 ^ n := unl_lt _ _ (by omega) (fun i hi => by
          obtain ⟨j, hj, rfl⟩ := List.mem_map.mp hi
          have := hps j (List.mem_range.mp hj)
          have := List.mem_range.mp hj
          exact hsvb _ (by omega))
        have nxt : ∀ w3 v, (∀ q, q ≠ 5 → q ≠ 6 → q ≠ 7 → q ≠ 10 → w3 q = w q) → (∀ j, j ≠ 3 → w3 10 j = w 10 j) → (∀ i, i < dd → w3 5 i = nI (p i)) → w3 5 dd = nI q → (∀ i, i < dd → w3 6 i = nI (unl (fun j => cs.getD j 0) (preL p (i + 1)) 0)) → (todo cs.length k p dd (q + 1)).find? (PP E n cs k) = Res → J X (K1 h d) cX1_findCover 6 3 170 [.ref (h 0), .int (nI k), .int (nI (2 ^ n - 1)), .int (nI dd), .int (nI step), v] [] w3 := by
          intro w3 v b1 b2 b3 b4 b5 b6
          refine j_inc4N (pc := 170) dX1_findCover_170 ?_
          refine j_goto (pc := 173) 21 dX1_findCover_173 (by decide) ?_
          have := pot_next (N := cs.length) (k := k) (p := p) c2
          exact j_wk (ih (step + 1) dd (q + 1) p w3 (by omega) (by omega) hdk (by omega) hpb b1 b2 b3 b4 b5 b6) ⟨_, rfl⟩
        have h80 : J X (K1 h d) cX1_findCover 6 3 80 [.ref (h 0), .int (nI k), .int (nI (2 ^ n - 1)), .int (nI dd), .int (nI step)] [.int (nI (unl (fun j => cs.getD j 0) (preL p dd) 0))] w2 := by
          first | refine j_st5_s (pc := 80) dX1_findCover_80 ?_ | refine j_st5_a (pc := 80) dX1_findCover_80 ?_
          refine j_al0n (pc := 82) dX1_findCover_82 ?_
          refine g1_union (pc := 83) dX1_findCover_83 ?_
          refine j_il3n (pc := 86) dX1_findCover_86 ?_
          refine j_il5 (pc := 87) dX1_findCover_87 ?_
          refine j_al0n (pc := 89) dX1_findCover_89 ?_
          refine g1_sets (pc := 90) dX1_findCover_90 ?_
          refine j_al0n (pc := 93) dX1_findCover_93 ?_
          refine g1_pick (pc := 94) dX1_findCover_94 ?_
          refine j_il3n (pc := 97) dX1_findCover_97 ?_
          refine al1_pick (pc := 98) dX1_findCover_98 (by omega) (a4) ?_
          refine al1_sets (pc := 99) dX1_findCover_99 (by omega) (a7 _ hqN) ?_
          first | with_reducible refine j_iorN (pc := 100) dX1_findCover_100 ?_ | refine j_ior (pc := 100) dX1_findCover_100 ?_
          refine as1_union (pc := 101) dX1_findCover_101 (by omega) ?_
          rw [← hU]
          generalize hw3' : wset w2 6 dd (nI (unl (fun j => cs.getD j 0) (preL (pset p dd q) (dd + 1)) 0)) = w3
          have b1 : ∀ q, q ≠ 5 → q ≠ 6 → q ≠ 7 → q ≠ 10 → w3 q = w q := fun x x1 x2 x3 x4 => by rw [← hw3', wset_i _ _ x2]; exact a1 x x1 x2 x3 x4
          have b2 : ∀ j, j ≠ 3 → w3 10 j = w 10 j := fun j hj => by rw [← hw3', wset_i _ _ (by decide)]; exact a2 j hj
          have b3 : ∀ i, i < dd → w3 5 i = nI (p i) := fun i hi => by rw [← hw3', wset_i _ _ (by decide)]; exact a3 i hi
          have b4 : w3 5 dd = nI q := by rw [← hw3', wset_i _ _ (by decide)]; exact a4
          have b5 : ∀ i, i < dd → w3 6 i = nI (unl (fun j => cs.getD j 0) (preL p (i + 1)) 0) := fun i hi => by rw [← hw3', wset_k _ _ (by omega)]; exact a5 i hi
          have b6 : w3 6 dd = nI (unl (fun j => cs.getD j 0) (preL (pset p dd q) (dd + 1)) 0) := by rw [← hw3', wset_s]
          have b7 : ∀ i, i < cs.length → w3 2 i = nI (cs.getD i 0) := fun i hi => by rw [← hw3', wset_i _ _ (by decide)]; exact a7 i hi
          have b8 : ∀ i, i ≤ cs.length → w3 3 i = nI (orL (cs.drop i)) := fun i hi => by rw [← hw3', wset_i _ _ (by decide)]; exact a8 i hi
          have b5p : ∀ i, i < dd + 1 → w3 5 i = nI (pset p dd q i) := fun i hi => by
            by_cases e : i = dd
            · rw [e, pset_s]; exact b4
            · rw [pset_n _ e]; exact b3 i (by omega)
          refine j_il3n (pc := 102) dX1_findCover_102 ?_
          refine j_il1n (pc := 103) dX1_findCover_103 ?_
          refine j_iconst (pc := 104) (nI 1) dX1_findCover_104 (by decide) ?_
          first | with_reducible refine j_isubN (pc := 105) dX1_findCover_105 (by omega) ?_ | refine j_isub (pc := 105) dX1_findCover_105 ?_
          refine j_icmp_neN (pc := 106) 129 dX1_findCover_106 (by decide) (by omega) (by omega) (fun c3 => ?_) (fun c3 => ?_)
          · -- not the last level
            refine j_al0n (pc := 129) dX1_findCover_129 ?_
            refine g1_union (pc := 130) dX1_findCover_130 ?_
            refine j_il3n (pc := 133) dX1_findCover_133 ?_
            refine al1_union (pc := 134) dX1_findCover_134 (by omega) (b6) ?_
            refine j_al0n (pc := 135) dX1_findCover_135 ?_
            refine g1_later (pc := 136) dX1_findCover_136 ?_
            refine j_al0n (pc := 139) dX1_findCover_139 ?_
            refine g1_pick (pc := 140) dX1_findCover_140 ?_
            refine j_il3n (pc := 143) dX1_findCover_143 ?_
            refine al1_pick (pc := 144) dX1_findCover_144 (by omega) (b4) ?_
            refine j_iconst (pc := 145) (nI 1) dX1_findCover_145 (by decide) ?_
            first | with_reducible refine j_iaddN (pc := 146) dX1_findCover_146 ?_ | refine j_iadd (pc := 146) dX1_findCover_146 ?_
            refine al1_later (pc := 147) dX1_findCover_147 (by omega) (b8 _ (by omega)) ?_
            first | with_reducible refine j_iorN (pc := 148) dX1_findCover_148 ?_ | refine j_ior (pc := 148) dX1_findCover_148 ?_
            refine j_il2n (pc := 149) dX1_findCover_149 ?_
            have hOlt : unl (fun j => cs.getD j 0) (preL (pset p dd q) (dd + 1)) 0 ||| orL (cs.drop (q + 1)) < 2 ^ n := Nat.or_lt_two_pow hUlt (orL_lt _ (fun x hx => hcs x (List.mem_of_mem_drop hx)))
            refine j_icmp_neN (pc := 150) 170 dX1_findCover_150 (by decide) (by omega) (by omega) (fun c4 => ?_) (fun c4 => ?_)
            · refine nxt w3 _ b1 b2 b3 b4 b5 ?_
              rw [← hres]
              exact (todo_prune hcs (fun l hl => by
                unfold PP at hl
                rw [Bool.and_eq_true] at hl
                exact of_decide_eq_true hl.1) hqN hdk hUlt c4).symm
            · refine j_inc3N (pc := 153) dX1_findCover_153 ?_
              refine j_al0n (pc := 156) dX1_findCover_156 ?_
              refine g1_pick (pc := 157) dX1_findCover_157 ?_
              refine j_il3n (pc := 160) dX1_findCover_160 ?_
              refine j_al0n (pc := 161) dX1_findCover_161 ?_
              refine g1_pick (pc := 162) dX1_findCover_162 ?_
              refine j_il3n (pc := 165) dX1_findCover_165 ?_
              refine j_iconst (pc := 166) (nI 1) dX1_findCover_166 (by decide) ?_
              first | with_reducible refine j_isubN (pc := 167) dX1_findCover_167 (by omega) ?_ | refine j_isub (pc := 167) dX1_findCover_167 ?_
              refine al1_pick (pc := 168) dX1_findCover_168 (by omega) ((show w3 5 (dd + 1 - 1) = nI q from b4)) ?_
              refine as1_pick (pc := 169) dX1_findCover_169 (by omega) ?_
              refine j_inc4N (pc := 170) dX1_findCover_170 ?_
              refine j_goto (pc := 173) 21 dX1_findCover_173 (by decide) ?_
              have hpd := pot_down (N := cs.length) (k := k) (d := dd) (q := q) (p := p) c2 (by omega)
              refine j_wk (ih (step + 1) (dd + 1) (q + 1) (pset p dd q) _ (by omega) (by omega) (by omega) (by omega) hps (fun x x1 x2 x3 x4 => by rw [wset_i _ _ x1]; exact b1 x x1 x2 x3 x4) (fun j hj => by rw [wset_i _ _ (by decide)]; exact b2 j hj) (fun i hi => by rw [wset_k _ _ (by omega)]; exact b5p i hi) (by rw [wset_s]; rfl) (fun i hi => ?_) ?_) ⟨_, rfl⟩
              · rw [wset_i _ _ (by decide)]
                by_cases e : i = dd
                · rw [e]; exact b6
                · rw [b5 i (by omega), preL_congr (p := pset p dd q) (p' := p) (d := i + 1) (fun j hj => pset_n p (by omega))]
              · rw [← hres, todo_down hqN hdk]
          · -- the last level
            obtain rfl : dd = k - 1 := by omega
            have hkk : k - 1 + 1 = k := by omega
            rw [hkk] at hU hUlt hps b6 b5p
            have hleaf := todo_leaf (N := cs.length) (k := k) (q := q) (p := p) hqN hk1
            rw [hleaf, List.find?_cons] at hres
            have hclo : clo E n (fun i => cs.getD ((preL (pset p (k - 1) q) k).getD i 0) 0) k = clo E n (fun i => cs.getD (pset p (k - 1) q i) 0) k := clo_congr (fun i hi => by simp only [preL_getD _ hi])
            refine j_al0n (pc := 109) dX1_findCover_109 ?_
            refine g1_union (pc := 110) dX1_findCover_110 ?_
            refine j_il3n (pc := 113) dX1_findCover_113 ?_
            refine al1_union (pc := 114) dX1_findCover_114 (by omega) (b6) ?_
            refine j_il2n (pc := 115) dX1_findCover_115 ?_
            refine j_icmp_neN (pc := 116) 170 dX1_findCover_116 (by decide) (by omega) (by omega) (fun c4 => ?_) (fun c4 => ?_)
            · refine nxt w3 _ b1 b2 b3 b4 b5 ?_
              have : PP E n cs k (preL (pset p (k - 1) q) k) = false := by
                unfold PP
                rw [decide_eq_false c4]
                rfl
              rw [this] at hres
              exact hres
            refine j_al0n (pc := 119) dX1_findCover_119 ?_
            refine j_il1n (pc := 120) dX1_findCover_120 ?_
            refine cl1_isClosed (pc := 121) dX1_findCover_121 (m1_isClosed (ok'.fr (b1 0 (by decide) (by decide) (by decide) (by decide)) (b2 0 (by decide))) (pk := pset p (k - 1) q) (sv := fun j => cs.getD j 0) (size := k) (cnt := cs.length) hk5 hN (fun i hi => ⟨b5p i hi, by have := hps i hi; omega⟩) (fun j hj => ⟨b7 j hj, by have := hsvb j hj; show cs.getD j 0 < 32; omega⟩)) (fun r w4 e => ?_)
            obtain ⟨e1, e2, e3, e4, rfl⟩ := e
            have hPP : PP E n cs k (preL (pset p (k - 1) q) k) = clo E n (fun i => cs.getD (pset p (k - 1) q i) 0) k := by
              unfold PP
              rw [decide_eq_true c4, Bool.true_and, hclo]
            rw [hPP] at hres
            have d1 : ∀ q, q ≠ 5 → q ≠ 6 → q ≠ 7 → q ≠ 10 → w4 q = w q := fun x x1 x2 x3 x4 => by rw [e1 x x3 x4]; exact b1 x x1 x2 x3 x4
            have d2 : ∀ j, j ≠ 3 → w4 10 j = w 10 j := fun j hj => by rw [e2 j hj]; exact b2 j hj
            refine j_if_eqB (pc := 124) 170 dX1_findCover_124 (by decide) (fun c5 => ?_) (fun c5 => ?_)
            · refine nxt w4 _ d1 d2 (fun i hi => by rw [e1 5 (by decide) (by decide)]; exact b3 i hi) (by rw [e1 5 (by decide) (by decide)]; exact b4) (fun i hi => by rw [e1 6 (by decide) (by decide)]; exact b5 i hi) ?_
              rw [c5] at hres
              exact hres
            · rw [c5] at hres
              refine j_iconst (pc := 127) (nI 1) dX1_findCover_127 (by decide) ?_
              exact j_zret R dX1_findCover_128 true (by first | rfl | decide) (⟨d1, d2, Or.inr ⟨_, rfl, hres.symm, e3, fun i hi => by rw [preL_getD _ hi]; exact e4 i hi⟩⟩)
        refine j_il3n (pc := 64) dX1_findCover_64 ?_
        refine j_if_leN (pc := 65) 79 dX1_findCover_65 (by decide) (by omega) (fun c3 => ?_) (fun c3 => ?_)
        · subst c3
          refine j_iconst (pc := 79) (nI 0) dX1_findCover_79 (by decide) ?_
          exact h80
        · obtain ⟨d', rfl⟩ : ∃ x, dd = x + 1 := ⟨dd - 1, by omega⟩
          refine j_al0n (pc := 68) dX1_findCover_68 ?_
          refine g1_union (pc := 69) dX1_findCover_69 ?_
          refine j_il3n (pc := 72) dX1_findCover_72 ?_
          refine j_iconst (pc := 73) (nI 1) dX1_findCover_73 (by decide) ?_
          first | with_reducible refine j_isubN (pc := 74) dX1_findCover_74 (by omega) ?_ | refine j_isub (pc := 74) dX1_findCover_74 ?_
          refine al1_union (pc := 75) dX1_findCover_75 (by omega) ((show w2 6 (d' + 1 - 1) = nI (unl (fun j => cs.getD j 0) (preL p (d' + 1)) 0) from a5 d' (by omega))) ?_
          refine j_goto (pc := 76) 80 dX1_findCover_76 (by decide) ?_
          exact h80
      · -- the level is used up
        refine j_inc3 (pc := 55) (no dd) dX1_findCover_55 (no_dec dd) ?_
        refine j_il3n (pc := 58) dX1_findCover_58 ?_
        refine j_if_ge (pc := 59) 170 dX1_findCover_59 (by decide) (fun c3 => ?_) (fun c3 => ?_)
        · rw [no_ge0 (by omega)] at c3
          obtain ⟨d', rfl⟩ : ∃ x, dd = x + 1 := ⟨dd - 1, by omega⟩
          simp only [no]
          refine j_inc4N (pc := 170) dX1_findCover_170 ?_
          refine j_goto (pc := 173) 21 dX1_findCover_173 (by decide) ?_
          have hpd := pot_back (N := cs.length) (k := k) (d := d') (q := q) (p := p)
          have hpb' := hpb d' (by omega)
          refine ih (step + 1) d' (p d' + 1) p w2 (by omega) (by omega) (by omega) (by omega) (fun i hi => hpb i (by omega)) a1 a2 (fun i hi => a3 i (by omega)) (a3 d' (by omega)) (fun i hi => a5 i (by omega)) ?_
          rw [← hres, todo_back (by omega)]
        · rw [no_ge0 (by omega)] at c3
          obtain rfl : dd = 0 := by omega
          rw [todo_back0 (by omega)] at hres
          refine j_iconst (pc := 62) (nI 0) dX1_findCover_62 (by decide) ?_
          exact j_zret R dX1_findCover_63 false (by first | rfl | decide) (⟨a1, a2, Or.inl ⟨rfl, hres.symm⟩⟩)
  refine j_iconst (pc := 0) (nI 1) dX1_findCover_0 (by decide) ?_
  refine j_al0n (pc := 1) dX1_findCover_1 ?_
  refine g1_n (pc := 2) dX1_findCover_2 (by first | assumption | rfl) ?_
  refine j_ishl1 (pc := 5) dX1_findCover_5 (by omega) ?_
  refine j_iconst (pc := 6) (nI 1) dX1_findCover_6 (by decide) ?_
  first | with_reducible refine j_isubN (pc := 7) dX1_findCover_7 (by omega) ?_ | refine j_isub (pc := 7) dX1_findCover_7 ?_
  first | refine j_st2n_s (pc := 8) dX1_findCover_8 ?_ | refine j_st2n_a (pc := 8) dX1_findCover_8 ?_
  refine j_iconst (pc := 9) (nI 0) dX1_findCover_9 (by decide) ?_
  first | refine j_st3n_s (pc := 10) dX1_findCover_10 ?_ | refine j_st3n_a (pc := 10) dX1_findCover_10 ?_
  refine j_al0n (pc := 11) dX1_findCover_11 ?_
  refine g1_pick (pc := 12) dX1_findCover_12 ?_
  refine j_iconst (pc := 15) (nI 0) dX1_findCover_15 (by decide) ?_
  refine j_iconst (pc := 16) (-1) dX1_findCover_16 (by decide) ?_
  refine as1_pick (pc := 17) dX1_findCover_17 (by omega) ?_
  refine j_iconst (pc := 18) (nI 0) dX1_findCover_18 (by decide) ?_
  first | refine j_st4_s (pc := 19) dX1_findCover_19 ?_ | refine j_st4_a (pc := 19) dX1_findCover_19 ?_
  refine main 500000 0 0 0 (fun _ => 0) _ (by omega) (pot_start hk1 hk5 hN hkN) (by omega) (by omega) (fun i hi => by omega) (fun x x1 x2 x3 x4 => by rw [wset_i _ _ x1]) (fun j hj => by rw [wset_i _ _ (by decide)]) (fun i hi => by omega) (by rw [wset_s]; rfl) (fun i hi => by omega) ?_
  rw [← hR]
  rfl
end S1
end
section
/-! pure: the compatible sets in order, a cover exists, what a cover gives -/
set_option maxRecDepth 100000
def CS (n : Nat) (E : Nat → Nat) : List Nat := cst (hp n (lvl E 25)) (2 ^ n)
def RK (n : Nat) (E : Nat → Nat) (k : Nat) : Option (List Nat) := (cmb (CS n E).length k 0).find? (PP E n (CS n E) k)
def Best (n : Nat) (E : Nat → Nat) (k : Nat) (pl : List Nat) : Prop := 1 ≤ k ∧ k ≤ n ∧ RK n E k = some pl ∧ ∀ j, 1 ≤ j → j < k → RK n E j = none
theorem cst_sorted (p : Nat → Bool) : ∀ m, (cst p m).Pairwise (fun a b => a < b) := by
  intro m
  induction m with
  | zero => exact List.Pairwise.nil
  | succ m ih =>
    rw [cst]
    split
    · rw [List.pairwise_append]
      refine ⟨ih, List.pairwise_singleton _ _, fun a ha b hb => ?_⟩
      rw [List.mem_singleton] at hb
      have := (cst_mem m).mp ha
      omega
    · exact ih
theorem getD_lt_of_sorted {cs : List Nat} (h : cs.Pairwise (fun a b => a < b)) {i j : Nat} (hij : i < j) (hj : j < cs.length) : cs.getD i 0 < cs.getD j 0 := by
  have := List.pairwise_iff_getElem.mp h i j (by omega) hj hij
  rw [List.getD_eq_getElem?_getD, List.getD_eq_getElem?_getD, List.getElem?_eq_getElem (by omega), List.getElem?_eq_getElem hj]
  exact this
theorem idx_of_mem {cs : List Nat} {x : Nat} (h : x ∈ cs) : ∃ i, i < cs.length ∧ cs.getD i 0 = x := by
  obtain ⟨i, hi, e⟩ := List.getElem_of_mem h
  refine ⟨i, hi, ?_⟩
  rw [List.getD_eq_getElem?_getD, List.getElem?_eq_getElem hi]
  exact e
theorem CS_lt {n : Nat} {E : Nat → Nat} {x : Nat} (h : x ∈ CS n E) : x < 2 ^ n := ((cst_mem _).mp h).1
theorem CS_hold {n : Nat} {E : Nat → Nat} {x : Nat} (h : x ∈ CS n E) : hold n (lvl E 25) x = true := by
  have := ((cst_mem _).mp h).2
  unfold hp at this
  rw [Bool.and_eq_true] at this
  exact this.2
theorem CS_len {n : Nat} {E : Nat → Nat} (h5 : n ≤ 5) : (CS n E).length ≤ 31 := by
  have := cst_len (p := hp n (lvl E 25)) rfl (2 ^ n)
  have := p2_le h5
  unfold CS
  omega
theorem sp_refl (E : Nat → Nat) : ∀ L s, sp E L s s = false := by
  intro L
  induction L with
  | zero => intro s; rfl
  | succ L ih =>
    intro s
    match L, ih with
    | 0, _ => simp [sp, dif]
    | L + 1, ih => simp [sp, stp, ih]
theorem lvl_refl (E : Nat → Nat) (s : Nat) : lvl E 25 s s = 1000 := (lvl_far E (by omega)).mpr (fun j _ => sp_refl E j s)
theorem single_mem {n : Nat} {E : Nat → Nat} {s : Nat} (hs : s < n) : 2 ^ s ∈ CS n E := by
  refine (cst_mem _).mpr ⟨Nat.pow_lt_pow_right (by omega) hs, ?_⟩
  unfold hp
  rw [Bool.and_eq_true]
  refine ⟨decide_eq_true (Nat.two_pow_pos s), decide_eq_true (fun a _ b _ h1 h2 => ?_)⟩
  rw [Nat.testBit_two_pow] at h1 h2
  have e1 := of_decide_eq_true h1
  have e2 := of_decide_eq_true h2
  rw [← e1, ← e2]
  exact lvl_refl E s
theorem cmb_of : ∀ m r a (l : List Nat), l.length = r → l.Pairwise (fun a b => a < b) → (∀ i ∈ l, a ≤ i ∧ i < a + m) → l ∈ cmb m r a := by
  intro m
  induction m with
  | zero =>
    intro r a l hl _ hb
    cases l with
    | nil =>
      subst hl
      simp [cmb]
    | cons x t =>
      have := hb x List.mem_cons_self
      omega
  | succ m ih =>
    intro r a l hl hp hb
    cases l with
    | nil =>
      subst hl
      simp [cmb]
    | cons x t =>
      obtain ⟨r, rfl⟩ : ∃ y, r = y + 1 := ⟨t.length, by simpa using hl.symm⟩
      rw [cmb, List.mem_append]
      rw [List.pairwise_cons] at hp
      have hx := hb x List.mem_cons_self
      by_cases e : x = a
      · left
        subst e
        refine List.mem_map.mpr ⟨t, ih r (x + 1) t (by simpa using hl) hp.2 (fun i hi => ?_), rfl⟩
        have h1 := hp.1 i hi
        have h2 := hb i (List.mem_cons_of_mem _ hi)
        omega
      · right
        refine ih (r + 1) (a + 1) (x :: t) hl (List.pairwise_cons.mpr hp) (fun i hi => ?_)
        have h2 := hb i hi
        rcases List.mem_cons.mp hi with rfl | h3
        · omega
        · have := hp.1 i h3
          omega
theorem fwF_some {cv : Nat → Nat} {set j : Nat} : ∀ m i, i ≤ j → j < i + m → set &&& cv j = set → fwF cv set m i ≠ 0 := by
  intro m
  induction m with
  | zero => intro i h1 h2; omega
  | succ m ih =>
    intro i h1 h2 h3
    rw [fwF]
    split
    · omega
    · rename_i hc
      by_cases e : i = j
      · subst e
        exact absurd h3 hc
      · exact ih (i + 1) (by omega) (by omega) h3
theorem fwF_spec {cv : Nat → Nat} {set : Nat} : ∀ m i, fwF cv set m i ≠ 0 → ∃ j, i ≤ j ∧ j < i + m ∧ fwF cv set m i = j + 1 ∧ set &&& cv j = set := by
  intro m
  induction m with
  | zero => intro i h; exact absurd rfl h
  | succ m ih =>
    intro i h
    rw [fwF] at h ⊢
    split at h
    · rename_i hc
      rw [if_pos hc]
      exact ⟨i, by omega, by omega, rfl, hc⟩
    · rename_i hc
      rw [if_neg hc]
      obtain ⟨j, h1, h2, h3, h4⟩ := ih (i + 1) h
      exact ⟨j, by omega, by omega, h3, h4⟩
theorem imN_bit {n : Nat} {E : Nat → Nat} {c a b : Nat} : ∀ m, (imN E c a m).testBit b = true ↔ ∃ s, s < m ∧ c.testBit s = true ∧ nx E s a = b + 1 := by
  intro m
  induction m with
  | zero => simp [imN]
  | succ m ih =>
    have aux : (∃ s, s < m + 1 ∧ c.testBit s = true ∧ nx E s a = b + 1) ↔ ((∃ s, s < m ∧ c.testBit s = true ∧ nx E s a = b + 1) ∨ (c.testBit m = true ∧ nx E m a = b + 1)) := by
      constructor
      · rintro ⟨s, h1, h2, h3⟩
        by_cases e : s = m
        · subst e
          exact Or.inr ⟨h2, h3⟩
        · exact Or.inl ⟨s, by omega, h2, h3⟩
      · rintro (⟨s, h1, h2, h3⟩ | ⟨h2, h3⟩)
        · exact ⟨s, by omega, h2, h3⟩
        · exact ⟨m, by omega, h2, h3⟩
    rw [aux, ← ih, imN]
    split
    · rename_i hc
      rw [Nat.testBit_or, Bool.or_eq_true, Nat.testBit_two_pow]
      constructor
      · rintro (q | q)
        · exact Or.inl q
        · have := of_decide_eq_true q
          exact Or.inr ⟨hc.1, by omega⟩
      · rintro (q | q)
        · exact Or.inl q
        · exact Or.inr (decide_eq_true (by omega))
    · rename_i hc
      constructor
      · exact Or.inl
      · rintro (q | q)
        · exact q
        · exact absurd ⟨q.1, by omega⟩ hc
theorem sub_iff {x y : Nat} : x &&& y = x ↔ ∀ b, x.testBit b = true → y.testBit b = true := by
  constructor
  · intro h b hb
    have h1 : (x &&& y).testBit b = x.testBit b := by rw [h]
    rw [Nat.testBit_and, hb] at h1
    simpa using h1
  · intro h
    apply Nat.eq_of_testBit_eq
    intro b
    rw [Nat.testBit_and]
    cases hb : x.testBit b with
    | false => rfl
    | true => rw [h b hb]; rfl
theorem unl_singles {cs : List Nat} {f : Nat → Nat} : ∀ d, (∀ s, s < d → cs.getD (f s) 0 = 2 ^ s) → unl (fun j => cs.getD j 0) (preL f d) 0 = 2 ^ d - 1 := by
  intro d
  induction d with
  | zero => intro _; rfl
  | succ d ih =>
    intro h
    rw [preL_succ, unl_app, ih (fun s hs => h s (by omega))]
    show (2 ^ d - 1) ||| cs.getD (f d) 0 = _
    rw [h d (by omega)]
    apply Nat.eq_of_testBit_eq
    intro b
    rw [Nat.testBit_or, Nat.testBit_two_pow_sub_one, Nat.testBit_two_pow, Nat.testBit_two_pow_sub_one]
    by_cases h1 : b < d
    · simp [h1]; omega
    · by_cases h2 : d = b
      · simp [h2]
      · simp [h1, h2]; omega
theorem RK_n {n : Nat} {E : Nat → Nat} (hE : ∀ k, E k < 3 * (n + 1)) : RK n E n ≠ none := by
  have hf : ∀ s, ∃ i, s < n → i < (CS n E).length ∧ (CS n E).getD i 0 = 2 ^ s := by
    intro s
    by_cases hs : s < n
    · obtain ⟨i, h1, h2⟩ := idx_of_mem (single_mem (E := E) hs)
      exact ⟨i, fun _ => ⟨h1, h2⟩⟩
    · exact ⟨0, fun h => absurd h hs⟩
  let f : Nat → Nat := fun s => Classical.choose (hf s)
  have hfs : ∀ s, s < n → f s < (CS n E).length ∧ (CS n E).getD (f s) 0 = 2 ^ s := fun s hs => Classical.choose_spec (hf s) hs
  have hmono : ∀ s t, s < t → t < n → f s < f t := by
    intro s t hst ht
    rcases Nat.lt_or_ge (f s) (f t) with q | q
    · exact q
    · have h1 := (hfs s (by omega))
      have h2 := (hfs t ht)
      have h3 : 2 ^ s < 2 ^ t := Nat.pow_lt_pow_right (by omega) hst
      rcases Nat.lt_or_ge (f t) (f s) with q2 | q2
      · have : (CS n E).getD (f t) 0 < (CS n E).getD (f s) 0 := getD_lt_of_sorted (cst_sorted _ _) q2 h1.1
        omega
      · have e : f s = f t := by omega
        rw [e] at h1
        omega
  have hmem : preL f n ∈ cmb (CS n E).length n 0 := by
    refine cmb_of _ _ _ _ (preL_len f n) ?_ ?_
    · unfold preL
      rw [List.pairwise_map]
      refine List.Pairwise.imp_of_mem ?_ (List.pairwise_lt_range)
      intro a b _ hb hab
      exact hmono a b hab (List.mem_range.mp hb)
    · intro i hi
      obtain ⟨s, hs, rfl⟩ := List.mem_map.mp hi
      have := (hfs s (List.mem_range.mp hs)).1
      omega
  have hPP : PP E n (CS n E) n (preL f n) = true := by
    unfold PP
    rw [Bool.and_eq_true]
    refine ⟨decide_eq_true (unl_singles n (fun s hs => (hfs s hs).2)), ?_⟩
    rw [clo_congr (cv' := fun i => 2 ^ i) (fun i hi => by simp only [preL_getD _ hi]; exact (hfs i hi).2)]
    refine decide_eq_true (fun j hj => ?_)
    by_cases h0 : nx E (j / 2) (j % 2) = 0
    · refine fwF_some (j := 0) n 0 (by omega) (by omega) (sub_iff.mpr (fun b hb => ?_))
      obtain ⟨s, h1, h2, h3⟩ := (imN_bit (n := n) n).mp hb
      rw [Nat.testBit_two_pow] at h2
      have e := of_decide_eq_true h2
      subst e
      omega
    · have := nx_le hE (j / 2) (j % 2)
      refine fwF_some (j := nx E (j / 2) (j % 2) - 1) n 0 (by omega) (by omega) (sub_iff.mpr (fun b hb => ?_))
      obtain ⟨s, h1, h2, h3⟩ := (imN_bit (n := n) n).mp hb
      rw [Nat.testBit_two_pow] at h2
      have e := of_decide_eq_true h2
      subst e
      rw [Nat.testBit_two_pow]
      exact decide_eq_true (by omega)
  intro hnone
  unfold RK at hnone
  rw [List.find?_eq_none] at hnone
  exact hnone _ hmem hPP
theorem best_ex {n : Nat} {E : Nat → Nat} (hn : 1 ≤ n) (hE : ∀ k, E k < 3 * (n + 1)) : ∃ k pl, Best n E k pl := by
  obtain ⟨k, hk, hmin⟩ := pk_least (fun k => 1 ≤ k ∧ RK n E k ≠ none) ⟨n, hn, RK_n hE⟩
  have hle : k ≤ n := by
    rcases Nat.lt_or_ge n k with q | q
    · exact absurd ⟨hn, RK_n hE⟩ (hmin n q)
    · exact q
  cases h : RK n E k with
  | none => exact absurd h hk.2
  | some pl =>
    refine ⟨k, pl, hk.1, hle, h, fun j h1 h2 => ?_⟩
    cases h3 : RK n E j with
    | none => rfl
    | some x => exact absurd ⟨h1, by rw [h3]; exact fun q => by cases q⟩ (hmin j h2)
/-- what the best cover gives -/
def IsB (n : Nat) (E : Nat → Nat) (k : Nat) (cv : Nat → Nat) : Prop := ∃ pl, Best n E k pl ∧ ∀ i, i < k → cv i = (CS n E).getD (pl.getD i 0) 0
theorem IsB.mem {n : Nat} {E : Nat → Nat} {k : Nat} {cv : Nat → Nat} (h : IsB n E k cv) : ∀ i, i < k → cv i ∈ CS n E := by
  obtain ⟨pl, ⟨h1, h2, h3, h4⟩, h5⟩ := h
  intro i hi
  rw [h5 i hi]
  have hm := List.mem_of_find?_eq_some h3
  have hlen : pl.length = k := by
    have key : ∀ m r a l, l ∈ cmb m r a → l.length = r := by
      intro m
      induction m with
      | zero =>
        intro r a l hl
        cases r with
        | zero => rw [cmb, List.mem_singleton] at hl; subst hl; rfl
        | succ r => cases hl
      | succ m ih =>
        intro r a l hl
        cases r with
        | zero => rw [cmb, List.mem_singleton] at hl; subst hl; rfl
        | succ r =>
          rw [cmb, List.mem_append] at hl
          rcases hl with hl | hl
          · obtain ⟨l', h6, rfl⟩ := List.mem_map.mp hl
            simp [ih r _ l' h6]
          · exact ih (r + 1) _ l hl
    exact key _ _ _ _ hm
  have hi2 : pl.getD i 0 ∈ pl := by
    rw [List.getD_eq_getElem?_getD, List.getElem?_eq_getElem (by omega)]
    exact List.getElem_mem _
  have := cmb_mem _ _ _ pl hm _ hi2
  exact getD_mem (by omega)
theorem IsB.clo {n : Nat} {E : Nat → Nat} {k : Nat} {cv : Nat → Nat} (h : IsB n E k cv) : ∀ j, j < 2 * k → fwF cv (imN E (cv (j / 2)) (j % 2) n) k 0 ≠ 0 := by
  obtain ⟨pl, ⟨h1, h2, h3, h4⟩, h5⟩ := h
  have hP := List.find?_some h3
  unfold PP at hP
  rw [Bool.and_eq_true] at hP
  rw [← clo_congr h5] at hP
  exact of_decide_eq_true hP.2
theorem unl_bit {sv : Nat → Nat} {b : Nat} : ∀ (l : List Nat) (u : Nat), (unl sv l u).testBit b = true → u.testBit b = true ∨ ∃ i ∈ l, (sv i).testBit b = true := by
  intro l
  induction l with
  | nil => intro u h; exact Or.inl h
  | cons x t ih =>
    intro u h
    rcases ih _ h with q | ⟨i, h1, h2⟩
    · rw [Nat.testBit_or, Bool.or_eq_true] at q
      rcases q with q | q
      · exact Or.inl q
      · exact Or.inr ⟨x, List.mem_cons_self, q⟩
    · exact Or.inr ⟨i, List.mem_cons_of_mem _ h1, h2⟩
theorem IsB.first {n : Nat} {E : Nat → Nat} {k : Nat} {cv : Nat → Nat} (hn : 1 ≤ n) (h : IsB n E k cv) : fwF cv 1 k 0 ≠ 0 := by
  obtain ⟨pl, ⟨h1, h2, h3, h4⟩, h5⟩ := h
  have hP := List.find?_some h3
  have hm := List.mem_of_find?_eq_some h3
  unfold PP at hP
  rw [Bool.and_eq_true] at hP
  have hu := of_decide_eq_true hP.1
  have hb : (unl (fun j => (CS n E).getD j 0) pl 0).testBit 0 = true := by
    rw [hu, Nat.testBit_two_pow_sub_one]
    exact decide_eq_true hn
  rcases unl_bit pl 0 hb with q | ⟨x, q1, q2⟩
  · simp at q
  · obtain ⟨i, hi, e⟩ := List.getElem_of_mem q1
    have hlen : pl.length = k := by
      have key : ∀ m r a l, l ∈ cmb m r a → l.length = r := by
        intro m
        induction m with
        | zero =>
          intro r a l hl
          cases r with
          | zero => rw [cmb, List.mem_singleton] at hl; subst hl; rfl
          | succ r => cases hl
        | succ m ih =>
          intro r a l hl
          cases r with
          | zero => rw [cmb, List.mem_singleton] at hl; subst hl; rfl
          | succ r =>
            rw [cmb, List.mem_append] at hl
            rcases hl with hl | hl
            · obtain ⟨l', h6, rfl⟩ := List.mem_map.mp hl
              simp [ih r _ l' h6]
            · exact ih (r + 1) _ l hl
      exact key _ _ _ _ hm
    refine fwF_some (j := i) k 0 (by omega) (by omega) (sub_iff.mpr (fun b hb2 => ?_))
    have e0 : b = 0 := by
      rcases Nat.eq_zero_or_pos b with q | q
      · exact q
      · have : Nat.testBit 1 b = false := Nat.testBit_lt_two_pow (Nat.one_lt_two_pow (by omega))
        rw [this] at hb2
        exact absurd hb2 (by decide)
    subst e0
    rw [h5 i (by omega), List.getD_eq_getElem?_getD (l := pl), List.getElem?_eq_getElem hi]
    show ((CS n E).getD pl[i] 0).testBit 0 = true
    rw [e]
    exact q2
theorem soF_eq {E : Nat → Nat} {c a v : Nat} : ∀ m s, (∀ t, s ≤ t → t < s + m → c.testBit t = true → ot E t a ≠ 0 → ot E t a = v) → (∃ t, s ≤ t ∧ t < s + m ∧ c.testBit t = true ∧ ot E t a ≠ 0) → soF E c a m s = v := by
  intro m
  induction m with
  | zero => rintro s _ ⟨t, h1, h2, _⟩; omega
  | succ m ih =>
    rintro s hall ⟨t, h1, h2, h3, h4⟩
    rw [soF]
    split
    · rename_i hc
      exact hall s (Nat.le_refl _) (by omega) hc.1 hc.2
    · rename_i hc
      refine ih (s + 1) (fun t' q1 q2 => hall t' (by omega) (by omega)) ⟨t, ?_, by omega, h3, h4⟩
      rcases Nat.lt_or_ge s t with q | q
      · exact q
      · have e : s = t := by omega
        subst e
        exact absurd ⟨h3, h4⟩ hc
/-- the class's output is the state's own, where that is known -/
theorem out_own {n : Nat} {E : Nat → Nat} {c s a : Nat} (hc : hold n (lvl E 25) c = true) (hs : s < n) (hb : c.testBit s = true) (ha : a < 2) (ho : ot E s a ≠ 0) : soF E c a n 0 = ot E s a := by
  have hc := of_decide_eq_true hc
  refine soF_eq n 0 (fun t _ h2 hbt hot => ?_) ⟨s, by omega, by omega, hb, ho⟩
  have hl := hc t (by omega) s hs hbt hb
  have h1 := (lvl_far E (by omega)).mp hl 1 (by omega)
  rw [sp] at h1
  have hd : dif E t s a = false := by
    rw [Bool.or_eq_false_iff] at h1
    rcases (show a = 0 ∨ a = 1 by omega) with rfl | rfl
    · exact h1.1
    · exact h1.2
  rcases Nat.decEq (ot E t a) (ot E s a) with q | q
  · have : dif E t s a = true := by simp [dif, hot, ho, q]
    rw [hd] at this
    exact absurd this (by decide)
  · exact q
end
section
/-! refresh of X1: what the object keeps between calls -/
set_option maxRecDepth 100000
def MX (n : Nat) (E : Nat → Nat) : List Nat := lgt (fun j => (CS n E).getD j 0) (CS n E).length (CS n E).length
def Cur1 (n : Nat) (E : Nat → Nat) (st : Nat) (w : Wd) : Prop := (∀ s t, s < n → t < n → w 1 (5 * s + t) = nI (lvl E 25 s t)) ∧ w 10 2 = nI (MX n E).length ∧ (∀ i, i < (MX n E).length → w 4 i = nI ((MX n E).getD i 0)) ∧
  ∃ k cv, IsB n E k cv ∧ w 10 3 = nI k ∧ (∀ i, i < k → w 7 i = nI (cv i)) ∧ (∀ j, j < 2 * k → w 8 j = no (fwF cv (imN E (cv (j / 2)) (j % 2) n) k 0) ∧ w 9 j = no (soF E (cv (j / 2)) (j % 2) n 0)) ∧ (st ≠ 0 → ∃ i, i < k ∧ w 10 6 = nI i ∧ (cv i).testBit (st - 1) = true)
def Inv1 (n : Nat) (E : Nat → Nat) (st : Nat) (w : Wd) : Prop := Ok1 n E w ∧ st ≤ n ∧ w 10 5 = no st ∧ ((w 10 4 = bI false ∧ st = 1) ∨ (w 10 4 = bI true ∧ Cur1 n E st w))
theorem CS_len_ge {n : Nat} {E : Nat → Nat} (hE : ∀ k, E k < 3 * (n + 1)) : n ≤ (CS n E).length := by
  rcases Nat.lt_or_ge (CS n E).length n with q | q
  · have := RK_n hE
    unfold RK at this
    rw [cmb_nil _ _ _ q] at this
    exact absurd rfl this
  · exact q
theorem IsB.le {n : Nat} {E : Nat → Nat} {k : Nat} {cv : Nat → Nat} (h : IsB n E k cv) : 1 ≤ k ∧ k ≤ n := by
  obtain ⟨pl, ⟨h1, h2, -, -⟩, -⟩ := h
  exact ⟨h1, h2⟩
section S1
variable {l : Launch} {D : va_G} {h : Nat → Nat} {d : Nat → ClassId} {w : Wd} {n : Nat} {E : Nat → Nat} {st : Nat}
set_option maxHeartbeats 4000000 in
theorem m1_refresh (iv : Inv1 n E st w) : Mv l D (K1 h d) yX1_refresh cX1_refresh 2 4 [.ref (h 0)] w (fun w' => Inv1 n E st w' ∧ w' 10 4 = bI true ∧ Cur1 n E st w') := by
  have iv' := iv
  obtain ⟨ok, hst, h5s, hcur⟩ := iv
  have ok' := ok
  obtain ⟨h2, h5, hE3, hE, hn⟩ := ok
  have hp := p2_le h5
  have hlen := CS_len (n := n) (E := E) h5
  have hlen2 := CS_len_ge hE3
  obtain ⟨k0, pl, hB⟩ := best_ex (by omega) hE3
  have hB' := hB
  obtain ⟨b1, b2, b3, b4⟩ := hB
  refine Mv.of (by decide) rfl (by simp [Value.category]) (Nat.le_of_ble_eq_true rfl) (fun X R => ?_)
  rcases hcur with ⟨hc4, hst1⟩ | ⟨hc4, hcu⟩
  rotate_left
  · refine j_al0n (pc := 0) dX1_refresh_0 ?_
    refine g1_current (pc := 1) dX1_refresh_1 (by first | assumption | rfl) ?_
    refine j_if_eqB (pc := 4) 8 dX1_refresh_4 (by decide) (fun c => ?_) (fun c => ?_)
    · exact absurd c (by decide)
    · exact j_vret R dX1_refresh_7 (⟨iv', hc4, hcu⟩)
  subst hst1
  refine j_al0n (pc := 0) dX1_refresh_0 ?_
  refine g1_current (pc := 1) dX1_refresh_1 (by first | assumption | rfl) ?_
  refine j_if_eqB (pc := 4) 8 dX1_refresh_4 (by decide) (fun c => ?_) (fun c => ?_)
  rotate_left
  · exact absurd c (by decide)
  refine j_al0n (pc := 8) dX1_refresh_8 ?_
  refine j_iconst (pc := 9) (nI 1) dX1_refresh_9 (by decide) ?_
  refine j_topi (v' := bI (true)) (by first | rfl | decide) ?_
  refine p1_current (pc := 10) dX1_refresh_10 ?_
  refine j_al0n (pc := 13) dX1_refresh_13 ?_
  have okA : Ok1 n E (wset w 10 4 (bI true)) := ok'.fr (wset_i _ _ (by decide)) (wset_k _ _ (by decide))
  refine cl1_levelPairs (pc := 14) dX1_refresh_14 (m1_levelPairs okA) (fun wB eB => ?_)
  obtain ⟨fB, lB⟩ := eB
  have okB : Ok1 n E wB := okA.fr (fB 0 (by decide)) (by rw [fB 10 (by decide)])
  refine j_al0n (pc := 17) dX1_refresh_17 ?_
  refine cl1_listSets (pc := 18) dX1_refresh_18 (m1_listSets okB (lv := lvl E 25) lB (fun s t => lvl_le E (by omega) s t)) (fun wC eC => ?_)
  obtain ⟨fC, sC, cC, vC, aC⟩ := eC
  have okC : Ok1 n E wC := okB.fr (fC 0 (by decide) (by decide) (by decide)) (sC 0 (by decide))
  have hmem : ∀ j, j < (CS n E).length → (CS n E).getD j 0 < 32 := fun j hj => by
    have := CS_lt (getD_mem hj)
    omega
  refine j_al0n (pc := 21) dX1_refresh_21 ?_
  refine cl1_listLargest (pc := 22) dX1_refresh_22 (m1_listLargest (sv := fun j => (CS n E).getD j 0) (cnt := (CS n E).length) hlen cC (fun j hj => ⟨vC j hj, hmem j hj⟩)) (fun wD eD => ?_)
  obtain ⟨fD, sD, cD, vD⟩ := eD
  have okD : Ok1 n E wD := okC.fr (fD 0 (by decide) (by decide)) (sD 0 (by decide))
  have q1 : wD 10 1 = nI (CS n E).length := by rw [sD 1 (by decide)]; exact cC
  have q2 : ∀ i, i < (CS n E).length → wD 2 i = nI ((CS n E).getD i 0) := fun i hi => by rw [fD 2 (by decide) (by decide)]; exact vC i hi
  have q3 : ∀ i, i ≤ (CS n E).length → wD 3 i = nI (orL ((CS n E).drop i)) := fun i hi => by rw [fD 3 (by decide) (by decide)]; exact aC i hi
  have q4 : wD 10 4 = bI true := by rw [sD 4 (by decide), sC 4 (by decide), fB 10 (by decide)]; exact wset_s _ _ _ _
  have q5 : wD 10 5 = no 1 := by rw [sD 5 (by decide), sC 5 (by decide), fB 10 (by decide), wset_k _ _ (by decide)]; exact h5s
  have q6 : ∀ s t, s < n → t < n → wD 1 (5 * s + t) = nI (lvl E 25 s t) := fun s t hs ht => by rw [fD 1 (by decide) (by decide), fC 1 (by decide) (by decide) (by decide)]; exact lB s t hs ht
  have fin : ∀ wF, (∀ q, q ≠ 5 → q ≠ 6 → q ≠ 7 → q ≠ 10 → wF q = wD q) → (∀ j, j ≠ 3 → wF 10 j = wD 10 j) → wF 10 3 = nI k0 → (∀ i, i < k0 → wF 7 i = nI ((CS n E).getD (pl.getD i 0) 0)) → J X (K1 h d) cX1_refresh 2 4 52 [.ref (h 0), .int (nI k0)] [] wF := by
    intro wF f1 f2 f3 f4
    have isB : IsB n E k0 (fun i => (CS n E).getD (pl.getD i 0) 0) := ⟨pl, hB', fun _ _ => rfl⟩
    have hcv : ∀ i, i < k0 → (CS n E).getD (pl.getD i 0) 0 < 32 := fun i hi => by
      have := CS_lt (isB.mem i hi)
      omega
    have okF : Ok1 n E wF := okD.fr (f1 0 (by decide) (by decide) (by decide) (by decide)) (f2 0 (by decide))
    refine j_al0n (pc := 52) dX1_refresh_52 ?_
    refine cl1_buildClasses (pc := 53) dX1_refresh_53 (m1_buildClasses okF (cv := fun i => (CS n E).getD (pl.getD i 0) 0) (cnt := k0) (by omega) f3 (fun i hi => ⟨f4 i hi, hcv i hi⟩)) (fun wG eG => ?_)
    obtain ⟨g1, g2⟩ := eG
    refine j_al0n (pc := 56) dX1_refresh_56 ?_
    refine j_al0n (pc := 57) dX1_refresh_57 ?_
    refine j_iconst (pc := 58) (nI 1) dX1_refresh_58 (by decide) ?_
    refine cl1_firstWith (pc := 59) dX1_refresh_59 (m1_firstWith (cv := fun i => (CS n E).getD (pl.getD i 0) 0) (cnt := k0) (set := 1) (by omega) (by rw [g1 10 (by decide) (by decide)]; exact f3) (fun i hi => ⟨by rw [g1 7 (by decide) (by decide)]; exact f4 i hi, hcv i hi⟩) (by decide)) (fun r w' e => ?_)
    obtain ⟨rfl, rfl⟩ := e
    obtain ⟨i, i1, i2, i3, i4⟩ := fwF_spec _ _ (isB.first (by omega))
    refine p1_inClass (pc := 62) dX1_refresh_62 ?_
    have hcu : Cur1 n E 1 (wset wG 10 6 (no (fwF (fun i => (CS n E).getD (pl.getD i 0) 0) 1 k0 0))) := by
      refine ⟨fun s t hs ht => ?_, ?_, fun j hj => ?_, k0, _, isB, ?_, fun j hj => ?_, fun j hj => ?_, fun _ => ⟨i, by omega, by rw [wset_s, i3]; rfl, ?_⟩⟩
      · rw [wset_i _ _ (by decide), g1 1 (by decide) (by decide), f1 1 (by decide) (by decide) (by decide) (by decide)]
        exact q6 s t hs ht
      · rw [wset_k _ _ (by decide), g1 10 (by decide) (by decide), f2 2 (by decide)]
        exact cD
      · rw [wset_i _ _ (by decide), g1 4 (by decide) (by decide), f1 4 (by decide) (by decide) (by decide) (by decide)]
        exact vD j hj
      · rw [wset_k _ _ (by decide), g1 10 (by decide) (by decide)]
        exact f3
      · rw [wset_i _ _ (by decide), g1 7 (by decide) (by decide)]
        exact f4 j hj
      · rw [wset_i _ _ (by decide), wset_i _ _ (by decide)]
        exact g2 j hj
      · exact sub_iff.mp i4 0 (by decide)
    have okG : Ok1 n E (wset wG 10 6 (no (fwF (fun i => (CS n E).getD (pl.getD i 0) 0) 1 k0 0))) := okF.fr (by rw [wset_i _ _ (by decide), g1 0 (by decide) (by decide)]) (by rw [wset_k _ _ (by decide), g1 10 (by decide) (by decide)])
    have r4 : wset wG 10 6 (no (fwF (fun i => (CS n E).getD (pl.getD i 0) 0) 1 k0 0)) 10 4 = bI true := by
      rw [wset_k _ _ (by decide), g1 10 (by decide) (by decide), f2 4 (by decide)]
      exact q4
    have r5 : wset wG 10 6 (no (fwF (fun i => (CS n E).getD (pl.getD i 0) 0) 1 k0 0)) 10 5 = no 1 := by
      rw [wset_k _ _ (by decide), g1 10 (by decide) (by decide), f2 5 (by decide)]
      exact q5
    exact j_vret R dX1_refresh_65 (⟨⟨okG, hst, r5, Or.inr ⟨r4, hcu⟩⟩, r4, hcu⟩)
  have L : ∀ m k wF, k + m = k0 → 1 ≤ k → (∀ q, q ≠ 5 → q ≠ 6 → q ≠ 7 → q ≠ 10 → wF q = wD q) → (∀ j, j ≠ 3 → wF 10 j = wD 10 j) → J X (K1 h d) cX1_refresh 2 4 27 [.ref (h 0), .int (nI k)] [] wF := by
    intro m
    induction m with
    | zero =>
      intro k wF hk hk1 f1 f2
      obtain rfl : k = k0 := by omega
      have hn2 : wF 10 0 = nI n := by rw [f2 0 (by decide)]; exact okD.2.2.2.2
      have okF : Ok1 n E wF := okD.fr (f1 0 (by decide) (by decide) (by decide) (by decide)) (f2 0 (by decide))
      refine j_il1n (pc := 27) dX1_refresh_27 ?_
      refine j_al0n (pc := 28) dX1_refresh_28 ?_
      refine g1_n (pc := 29) dX1_refresh_29 (by first | assumption | rfl) ?_
      refine j_icmp_gtN (pc := 32) 52 dX1_refresh_32 (by decide) (by omega) (by omega) (fun c1 => ?_) (fun c1 => ?_)
      · omega
      refine j_al0n (pc := 35) dX1_refresh_35 ?_
      refine j_il1n (pc := 36) dX1_refresh_36 ?_
      refine cl1_findCover (pc := 37) dX1_refresh_37 (m1_findCover okF (cs := CS n E) (k := k) hk1 (by omega) hlen (by omega) (fun x hx => CS_lt hx) (by rw [f2 1 (by decide)]; exact q1) (fun i hi => by rw [f1 2 (by decide) (by decide) (by decide) (by decide)]; exact q2 i hi) (fun i hi => by rw [f1 3 (by decide) (by decide) (by decide) (by decide)]; exact q3 i hi)) (fun r wG e => ?_)
      obtain ⟨e1, e2, e3⟩ := e
      rcases e3 with ⟨-, e4⟩ | ⟨pl', rfl, e4, e5, e6⟩
      · rw [show (cmb (CS n E).length k 0).find? (PP E n (CS n E) k) = RK n E k from rfl, b3] at e4
        cases e4
      · rw [show (cmb (CS n E).length k 0).find? (PP E n (CS n E) k) = RK n E k from rfl, b3] at e4
        cases e4
        refine j_if_eqB (pc := 40) 46 dX1_refresh_40 (by decide) (fun c2 => ?_) (fun c2 => ?_)
        · exact absurd c2 (by decide)
        · refine j_goto (pc := 43) 52 dX1_refresh_43 (by decide) ?_
          exact fin wG (fun q x1 x2 x3 x4 => by rw [e1 q x1 x2 x3 x4]; exact f1 q x1 x2 x3 x4) (fun j hj => by rw [e2 j hj]; exact f2 j hj) e5 e6
    | succ m ih =>
      intro k wF hk hk1 f1 f2
      have hn2 : wF 10 0 = nI n := by rw [f2 0 (by decide)]; exact okD.2.2.2.2
      have okF : Ok1 n E wF := okD.fr (f1 0 (by decide) (by decide) (by decide) (by decide)) (f2 0 (by decide))
      refine j_il1n (pc := 27) dX1_refresh_27 ?_
      refine j_al0n (pc := 28) dX1_refresh_28 ?_
      refine g1_n (pc := 29) dX1_refresh_29 (by first | assumption | rfl) ?_
      refine j_icmp_gtN (pc := 32) 52 dX1_refresh_32 (by decide) (by omega) (by omega) (fun c1 => ?_) (fun c1 => ?_)
      · omega
      refine j_al0n (pc := 35) dX1_refresh_35 ?_
      refine j_il1n (pc := 36) dX1_refresh_36 ?_
      refine cl1_findCover (pc := 37) dX1_refresh_37 (m1_findCover okF (cs := CS n E) (k := k) hk1 (by omega) hlen (by omega) (fun x hx => CS_lt hx) (by rw [f2 1 (by decide)]; exact q1) (fun i hi => by rw [f1 2 (by decide) (by decide) (by decide) (by decide)]; exact q2 i hi) (fun i hi => by rw [f1 3 (by decide) (by decide) (by decide) (by decide)]; exact q3 i hi)) (fun r wG e => ?_)
      obtain ⟨e1, e2, e3⟩ := e
      rcases e3 with ⟨rfl, e4⟩ | ⟨pl', -, e4, -, -⟩
      · refine j_if_eqB (pc := 40) 46 dX1_refresh_40 (by decide) (fun c2 => ?_) (fun c2 => ?_)
        · refine j_inc1N (pc := 46) dX1_refresh_46 ?_
          refine j_goto (pc := 49) 27 dX1_refresh_49 (by decide) ?_
          exact ih (k + 1) wG (by omega) (by omega) (fun q x1 x2 x3 x4 => by rw [e1 q x1 x2 x3 x4]; exact f1 q x1 x2 x3 x4) (fun j hj => by rw [e2 j hj]; exact f2 j hj)
        · exact absurd c2 (by decide)
      · rw [show (cmb (CS n E).length k 0).find? (PP E n (CS n E) k) = RK n E k from rfl, b4 k hk1 (by omega)] at e4
        cases e4
  refine j_iconst (pc := 25) (nI 1) dX1_refresh_25 (by decide) ?_
  first | refine j_st1n_s (pc := 26) dX1_refresh_26 ?_ | refine j_st1n_a (pc := 26) dX1_refresh_26 ?_
  exact L (k0 - 1) 1 wD (by omega) (by omega) (fun _ _ _ _ _ => rfl) (fun _ _ => rfl)
end S1
end
section
/-! the public methods of X1 -/
set_option maxRecDepth 100000
abbrev cl (x : Int32) : Nat := x.toNatClampNeg
theorem cl_nI {j : Nat} (h : j < 2 ^ 31) : cl (nI j) = j := nI_clamp h
def ok_set (n : Nat) (x a e : Int32) : Bool := inR 0 n x && inR 0 2 a && inR 0 (3 * (n + 1)) e
def r_set (n : Nat) (E : Nat → Nat) (x a e : Int32) : Int32 := if inR 0 n x = false then -1 else if inR 0 2 a = false then -2 else if inR 0 (3 * (n + 1)) e = false then -3 else nI (E (2 * cl x + cl a))
def E_set (n : Nat) (E : Nat → Nat) (x a e : Int32) : Nat → Nat := fun k => if ok_set n x a e = true ∧ k = 2 * cl x + cl a then cl e else E k
def st_set (n st : Nat) (x a e : Int32) : Nat := if ok_set n x a e = true then 1 else st
def r_entry (n : Nat) (E : Nat → Nat) (x a : Int32) : Int32 := if inR 0 n x = false then -1 else if inR 0 2 a = false then -2 else nI (E (2 * cl x + cl a))
def r_compat (n : Nat) (E : Nat → Nat) (x y : Int32) : Int32 := if inR 0 n x = false then -1 else if inR 0 n y = false then -1 else bI (decide (lvl E 25 (cl x) (cl y) = 1000))
def r_len (n : Nat) (E : Nat → Nat) (x y : Int32) : Int32 := if inR 0 n x = false then -1 else if inR 0 n y = false then -1 else if lvl E 25 (cl x) (cl y) = 1000 then -2 else nI (lvl E 25 (cl x) (cl y))
def gw (E : Nat → Nat) : Nat → Nat → Nat → Nat
  | 0, _, _ => 0
  | L + 1, s, t => if spa E (L + 1) s t 0 = true then gw E L (nx E s 0 - 1) (nx E t 0 - 1) else 2 ^ L + gw E L (nx E s 1 - 1) (nx E t 1 - 1)
def r_word (n : Nat) (E : Nat → Nat) (x y : Int32) : Int32 := if inR 0 n x = false then -1 else if inR 0 n y = false then -1 else if lvl E 25 (cl x) (cl y) = 1000 then -2 else nI (gw E (lvl E 25 (cl x) (cl y)) (cl x) (cl y))
def r_cset (n : Nat) (E : Nat → Nat) (c : Int32) : Int32 := if inR 1 (2 ^ n) c = false then -1 else bI (hold n (lvl E 25) (cl c))
def r_max (n : Nat) (E : Nat → Nat) (i : Int32) : Int32 := if inR 0 (MX n E).length i = false then -1 else nI ((MX n E).getD (cl i) 0)
def r_impl (n : Nat) (E : Nat → Nat) (c a : Int32) : Int32 := if inR 1 (2 ^ n) c = false then -1 else if inR 0 2 a = false then -2 else nI (imN E (cl c) (cl a) n)
abbrev in3 (x a b c : Nat) : Prop := x &&& a = x ∨ x &&& b = x ∨ x &&& c = x
def clB (E : Nat → Nat) (n a b c i : Nat) : Bool := decide (∀ j, j < i → in3 (imN E a j n) a b c ∧ in3 (imN E b j n) a b c ∧ in3 (imN E c j n) a b c)
def isCov (n : Nat) (E : Nat → Nat) (a b c : Nat) : Bool := hold n (lvl E 25) a && hold n (lvl E 25) b && hold n (lvl E 25) c && decide (a ||| b ||| c = 2 ^ n - 1) && clB E n a b c 2
def r_cov (n : Nat) (E : Nat → Nat) (a b c : Int32) : Int32 := if inR 0 (2 ^ n) a = false then -1 else if inR 0 (2 ^ n) b = false then -1 else if inR 0 (2 ^ n) c = false then -1 else if cl a ||| cl b ||| cl c = 0 then -1 else bI (isCov n E (cl a) (cl b) (cl c))
def r_read (E : Nat → Nat) (st : Nat) (a : Int32) : Int32 := if inR 0 2 a = false then -1 else if st = 0 then -3 else if ot E (st - 1) (cl a) = 0 then -2 else no (ot E (st - 1) (cl a))
def st_read (E : Nat → Nat) (st : Nat) (a : Int32) : Nat := if inR 0 2 a = false then st else if st = 0 then st else nx E (st - 1) (cl a)
theorem MX_len {n : Nat} {E : Nat → Nat} (h5 : n ≤ 5) : (MX n E).length ≤ 31 := by
  have h1 := lgt_len (fun j => (CS n E).getD j 0) (CS n E).length (CS n E).length
  have h2 := CS_len (n := n) (E := E) h5
  unfold MX
  omega
/-- what splits answers at a pair whose level is L -/
theorem spa_25 {E : Nat → Nat} {L s t a : Nat} (hL : 1 ≤ L) (hL2 : L ≤ 25) (ha : a < 2) (hl : lvl E 25 s t = L) : (if L = 1 then dif E s t a else stp E (fun p q => decide (lvl E 25 p q = L - 1)) s t a) = spa E L s t a := by
  match L, hL, hL2, hl with
  | 1, _, _, _ => rfl
  | k + 2, hL, hL2, hl =>
    rw [if_neg (by omega)]
    show _ = stp E (sp E (k + 1)) s t a
    apply stp_congr
    intro h1 h2
    have hf := ((lvl_eq E (by omega) (by omega) (by omega)).mp hl).2
    have key : lvl E 25 (nx E s a - 1) (nx E t a - 1) = k + 2 - 1 ↔ sp E (k + 1) (nx E s a - 1) (nx E t a - 1) = true := by
      rw [lvl_eq E (by omega) (by omega) (by omega)]
      refine ⟨fun h => h.1, fun h => ⟨h, fun i hi => ?_⟩⟩
      rcases Nat.eq_zero_or_pos i with rfl | hi0
      · rfl
      · cases hb : sp E i (nx E s a - 1) (nx E t a - 1) with
        | false => rfl
        | true =>
          have : sp E (i + 1) s t = true := sp_step hi0 ha (by unfold stp; simp [h1, h2, hb])
          rw [hf (i + 1) (by omega)] at this
          exact absurd this (by decide)
    cases hb : sp E (k + 1) (nx E s a - 1) (nx E t a - 1) with
    | false => exact decide_eq_false (fun e => by rw [key.mp e] at hb; exact absurd hb (by decide))
    | true => exact decide_eq_true (key.mpr hb)
theorem spa_next {E : Nat → Nat} {L s t a : Nat} (hL : 1 ≤ L) (hL2 : L + 1 ≤ 25) (ha : a < 2) (hl : lvl E 25 s t = L + 1) (h : spa E (L + 1) s t a = true) : nx E s a ≠ 0 ∧ nx E t a ≠ 0 ∧ lvl E 25 (nx E s a - 1) (nx E t a - 1) = L := by
  rw [← spa_25 (by omega) hL2 ha hl, if_neg (by omega)] at h
  unfold stp at h
  simp only [Bool.and_eq_true, bne_iff_ne, ne_eq, decide_eq_true_eq] at h
  exact ⟨h.1.1, h.1.2, by omega⟩
theorem spa_one {E : Nat → Nat} {L s t : Nat} (hL : 1 ≤ L) (hL2 : L ≤ 25) (hl : lvl E 25 s t = L) (h : spa E L s t 0 = false) : spa E L s t 1 = true := by
  have := ((lvl_eq E (by omega) hL hL2).mp hl).1
  rw [sp_spa, h] at this
  simpa using this
section S1
variable {l : Launch} {D : va_G} {h : Nat → Nat} {d : Nat → ClassId} {w : Wd} {n : Nat} {E : Nat → Nat} {st : Nat}
set_option maxHeartbeats 1000000 in
theorem m1_lost (iv : Inv1 n E st w) : Mi l D (K1 h d) yX1_lost cX1_lost 1 0 (some .int) [.ref (h 0)] w (fun r w' => r = bI (decide (st = 0)) ∧ Inv1 n E st w') := by
  have iv' := iv
  obtain ⟨⟨h2, h5, hE3, hE, hn⟩, hst, h5s, hcur⟩ := iv
  refine Mi.of (by decide) rfl (by simp [Value.category]) (Nat.le_of_ble_eq_true rfl) (fun X R => ?_)
  refine j_al0n (pc := 0) dX1_lost_0 ?_
  refine g1_state (pc := 1) dX1_lost_1 (by first | assumption | rfl) ?_
  refine j_iconst (pc := 4) (-1) dX1_lost_4 (by decide) ?_
  refine j_icmp_ne (pc := 5) 12 dX1_lost_5 (by decide) (fun c => ?_) (fun c => ?_)
  · rw [no_m1 (by omega)] at c
    refine j_iconst (pc := 12) (bI false) dX1_lost_12 (by decide) ?_
    exact j_iret R dX1_lost_13 (⟨by rw [decide_eq_false c], iv'⟩)
  · rw [no_m1 (by omega)] at c
    refine j_iconst (pc := 8) (bI true) dX1_lost_8 (by decide) ?_
    refine j_goto (pc := 9) 13 dX1_lost_9 (by decide) ?_
    exact j_iret R dX1_lost_13 (⟨by rw [decide_eq_true c], iv'⟩)
set_option maxHeartbeats 1000000 in
theorem m1_entry (iv : Inv1 n E st w) (x a : Int32) : Mi l D (K1 h d) yX1_entry cX1_entry 3 1 (some .int) [.ref (h 0), .int x, .int a] w (fun r w' => r = r_entry n E x a ∧ Inv1 n E st w') := by
  have iv' := iv
  obtain ⟨ok, hst, h5s, hcur⟩ := iv
  have ok' := ok
  obtain ⟨h2, h5, hE3, hE, hn⟩ := ok
  refine Mi.of (by decide) rfl (by simp [Value.category]) (Nat.le_of_ble_eq_true rfl) (fun X R => ?_)
  refine j_al0n (pc := 0) dX1_entry_0 ?_
  refine j_il1n (pc := 1) dX1_entry_1 ?_
  refine cl1_isState (pc := 2) dX1_entry_2 (m1_isState ok' x) (fun r w' e => ?_)
  obtain ⟨rfl, rfl⟩ := e
  refine j_if_neB (pc := 5) 10 dX1_entry_5 (by decide) (fun c => ?_) (fun c => ?_)
  rotate_left
  · refine j_iconst (pc := 8) (-1) dX1_entry_8 (by decide) ?_
    exact j_iret R dX1_entry_9 (⟨by rw [r_entry, if_pos c], iv'⟩)
  obtain ⟨s, -, hs, rfl⟩ := inR_nI c (by omega)
  refine j_il2n (pc := 10) dX1_entry_10 ?_
  refine cl1_isInput (pc := 11) dX1_entry_11 (m1_isInput a) (fun r w' e => ?_)
  obtain ⟨rfl, rfl⟩ := e
  refine j_if_eqB (pc := 14) 30 dX1_entry_14 (by decide) (fun c2 => ?_) (fun c2 => ?_)
  · refine j_bipush (pc := 30) (-2) dX1_entry_30 (by decide) ?_
    exact j_iret R dX1_entry_32 (⟨by rw [r_entry, if_neg (by rw [c]; decide), if_pos c2], iv'⟩)
  obtain ⟨b, -, hb, rfl⟩ := inR_nI c2 (by omega)
  refine j_al0n (pc := 17) dX1_entry_17 ?_
  refine g1_entries (pc := 18) dX1_entry_18 ?_
  refine j_iconst (pc := 21) (nI 2) dX1_entry_21 (by decide) ?_
  refine j_il1n (pc := 22) dX1_entry_22 ?_
  first | with_reducible refine j_imulN (pc := 23) dX1_entry_23 ?_ | refine j_imul (pc := 23) dX1_entry_23 ?_
  refine j_il2n (pc := 24) dX1_entry_24 ?_
  first | with_reducible refine j_iaddN (pc := 25) dX1_entry_25 ?_ | refine j_iadd (pc := 25) dX1_entry_25 ?_
  refine al1_entries (pc := 26) dX1_entry_26 (by omega) (hE _ (by omega)) ?_
  refine j_goto (pc := 27) 32 dX1_entry_27 (by decide) ?_
  exact j_iret R dX1_entry_32 (⟨by rw [r_entry, if_neg (by rw [c]; decide), if_neg (by rw [c2]; decide), cl_nI (by omega), cl_nI (by omega)], iv'⟩)
set_option maxHeartbeats 1000000 in
theorem m1_set (iv : Inv1 n E st w) (x a e : Int32) : Mi l D (K1 h d) yX1_set cX1_set 5 1 (some .int) [.ref (h 0), .int x, .int a, .int e] w (fun r w' => r = r_set n E x a e ∧ Inv1 n (E_set n E x a e) (st_set n st x a e) w') := by
  have iv' := iv
  obtain ⟨ok, hst, h5s, hcur⟩ := iv
  have ok' := ok
  obtain ⟨h2, h5, hE3, hE, hn⟩ := ok
  have same : ok_set n x a e = false → Inv1 n (E_set n E x a e) (st_set n st x a e) w := by
    intro q
    have e1 : E_set n E x a e = E := by funext k; simp [E_set, q]
    have e2 : st_set n st x a e = st := by simp [st_set, q]
    rw [e1, e2]
    exact iv'
  refine Mi.of (by decide) rfl (by simp [Value.category]) (Nat.le_of_ble_eq_true rfl) (fun X R => ?_)
  refine j_al0n (pc := 0) dX1_set_0 ?_
  refine j_il1n (pc := 1) dX1_set_1 ?_
  refine cl1_isState (pc := 2) dX1_set_2 (m1_isState ok' x) (fun r w' e0 => ?_)
  obtain ⟨rfl, rfl⟩ := e0
  refine j_if_neB (pc := 5) 10 dX1_set_5 (by decide) (fun c => ?_) (fun c => ?_)
  rotate_left
  · refine j_iconst (pc := 8) (-1) dX1_set_8 (by decide) ?_
    exact j_iret R dX1_set_9 (⟨by rw [r_set, if_pos c], same (by simp [ok_set, c])⟩)
  refine j_il2n (pc := 10) dX1_set_10 ?_
  refine cl1_isInput (pc := 11) dX1_set_11 (m1_isInput a) (fun r w' e0 => ?_)
  obtain ⟨rfl, rfl⟩ := e0
  refine j_if_neB (pc := 14) 20 dX1_set_14 (by decide) (fun c2 => ?_) (fun c2 => ?_)
  rotate_left
  · refine j_bipush (pc := 17) (-2) dX1_set_17 (by decide) ?_
    exact j_iret R dX1_set_19 (⟨by rw [r_set, if_neg (by rw [c]; decide), if_pos c2], same (by simp [ok_set, c2])⟩)
  refine j_il3n (pc := 20) dX1_set_20 ?_
  refine j_if_lt (pc := 21) 36 dX1_set_21 (by decide) (fun c3 => ?_) (fun c3 => ?_)
  · rw [i_lt0] at c3
    have c4 : inR 0 (3 * (n + 1)) e = false := inR_f (by omega)
    refine j_bipush (pc := 36) (-3) dX1_set_36 (by decide) ?_
    exact j_iret R dX1_set_38 (⟨by rw [r_set, if_neg (by rw [c]; decide), if_neg (by rw [c2]; decide), if_pos c4], same (by simp [ok_set, c4])⟩)
  rw [i_lt0] at c3
  refine j_il3n (pc := 24) dX1_set_24 ?_
  refine j_iconst (pc := 25) (nI 3) dX1_set_25 (by decide) ?_
  refine j_al0n (pc := 26) dX1_set_26 ?_
  refine g1_n (pc := 27) dX1_set_27 (by first | assumption | rfl) ?_
  refine j_iconst (pc := 30) (nI 1) dX1_set_30 (by decide) ?_
  first | with_reducible refine j_iaddN (pc := 31) dX1_set_31 ?_ | refine j_iadd (pc := 31) dX1_set_31 ?_
  first | with_reducible refine j_imulN (pc := 32) dX1_set_32 ?_ | refine j_imul (pc := 32) dX1_set_32 ?_
  refine j_icmp_lt (pc := 33) 39 dX1_set_33 (by decide) (fun c4 => ?_) (fun c4 => ?_)
  rotate_left
  · rw [i_ltn (by omega)] at c4
    have c4 : inR 0 (3 * (n + 1)) e = false := inR_f (by omega)
    refine j_bipush (pc := 36) (-3) dX1_set_36 (by decide) ?_
    exact j_iret R dX1_set_38 (⟨by rw [r_set, if_neg (by rw [c]; decide), if_neg (by rw [c2]; decide), if_pos c4], same (by simp [ok_set, c4])⟩)
  rw [i_ltn (by omega)] at c4
  have c4 : inR 0 (3 * (n + 1)) e = true := inR_t (by omega) (by omega)
  have hok : ok_set n x a e = true := by simp [ok_set, c, c2, c4]
  have hr : r_set n E x a e = nI (E (2 * cl x + cl a)) := by rw [r_set, if_neg (by rw [c]; decide), if_neg (by rw [c2]; decide), if_neg (by rw [c4]; decide)]
  obtain ⟨s, -, hs, rfl⟩ := inR_nI c (by omega)
  obtain ⟨b, -, hb, rfl⟩ := inR_nI c2 (by omega)
  obtain ⟨v, -, hv, rfl⟩ := inR_nI c4 (by omega)
  rw [cl_nI (by omega), cl_nI (by omega)] at hr
  refine j_al0n (pc := 39) dX1_set_39 ?_
  refine g1_entries (pc := 40) dX1_set_40 ?_
  refine j_iconst (pc := 43) (nI 2) dX1_set_43 (by decide) ?_
  refine j_il1n (pc := 44) dX1_set_44 ?_
  first | with_reducible refine j_imulN (pc := 45) dX1_set_45 ?_ | refine j_imul (pc := 45) dX1_set_45 ?_
  refine j_il2n (pc := 46) dX1_set_46 ?_
  first | with_reducible refine j_iaddN (pc := 47) dX1_set_47 ?_ | refine j_iadd (pc := 47) dX1_set_47 ?_
  refine al1_entries (pc := 48) dX1_set_48 (by omega) (hE _ (by omega)) ?_
  first | refine j_st4_s (pc := 49) dX1_set_49 ?_ | refine j_st4_a (pc := 49) dX1_set_49 ?_
  refine j_al0n (pc := 51) dX1_set_51 ?_
  refine g1_entries (pc := 52) dX1_set_52 ?_
  refine j_iconst (pc := 55) (nI 2) dX1_set_55 (by decide) ?_
  refine j_il1n (pc := 56) dX1_set_56 ?_
  first | with_reducible refine j_imulN (pc := 57) dX1_set_57 ?_ | refine j_imul (pc := 57) dX1_set_57 ?_
  refine j_il2n (pc := 58) dX1_set_58 ?_
  first | with_reducible refine j_iaddN (pc := 59) dX1_set_59 ?_ | refine j_iadd (pc := 59) dX1_set_59 ?_
  refine j_il3n (pc := 60) dX1_set_60 ?_
  refine as1_entries (pc := 61) dX1_set_61 (by omega) ?_
  refine j_al0n (pc := 62) dX1_set_62 ?_
  refine j_iconst (pc := 63) (nI 0) dX1_set_63 (by decide) ?_
  refine j_topi (v' := bI (false)) (by first | rfl | decide) ?_
  refine p1_current (pc := 64) dX1_set_64 ?_
  refine j_al0n (pc := 67) dX1_set_67 ?_
  refine j_iconst (pc := 68) (nI 0) dX1_set_68 (by decide) ?_
  refine p1_state (pc := 69) dX1_set_69 ?_
  refine j_il4 (pc := 72) dX1_set_72 ?_
  refine j_iret R dX1_set_74 ⟨hr.symm, ?_⟩
  have eE : ∀ k, E_set n E (nI s) (nI b) (nI v) k = if k = 2 * s + b then v else E k := by
    intro k
    simp only [E_set, hok, cl_nI (show s < 2 ^ 31 by omega), cl_nI (show b < 2 ^ 31 by omega), cl_nI (show v < 2 ^ 31 by omega), true_and]
  have eS : st_set n st (nI s) (nI b) (nI v) = 1 := by simp [st_set, hok]
  rw [eS]
  refine ⟨⟨h2, h5, fun k => ?_, fun k hk => ?_, ?_⟩, by omega, ?_, Or.inl ⟨?_, rfl⟩⟩
  · rw [eE]
    have := hE3 k
    split <;> omega
  · rw [eE, wset_i _ _ (by decide), wset_i _ _ (by decide)]
    split
    · rename_i q
      rw [q, wset_s]
    · rename_i q
      rw [wset_k _ _ q]
      exact hE k hk
  · rw [wset_k _ _ (by decide), wset_k _ _ (by decide), wset_i _ _ (by decide)]
    exact hn
  · rw [wset_s]
    rfl
  · rw [wset_k _ _ (by decide), wset_s]
set_option maxHeartbeats 1000000 in
theorem m1_compatible (iv : Inv1 n E st w) (x y : Int32) : Mi l D (K1 h d) yX1_compatible cX1_compatible 3 5 (some .int) [.ref (h 0), .int x, .int y] w (fun r w' => r = r_compat n E x y ∧ Inv1 n E st w') := by
  have iv' := iv
  obtain ⟨ok, hst, h5s, hcur⟩ := iv
  have ok' := ok
  obtain ⟨h2, h5, hE3, hE, hn⟩ := ok
  refine Mi.of (by decide) rfl (by simp [Value.category]) (Nat.le_of_ble_eq_true rfl) (fun X R => ?_)
  refine j_al0n (pc := 0) dX1_compatible_0 ?_
  refine j_il1n (pc := 1) dX1_compatible_1 ?_
  refine cl1_isState (pc := 2) dX1_compatible_2 (m1_isState ok' x) (fun r w' e => ?_)
  obtain ⟨rfl, rfl⟩ := e
  refine j_if_eqB (pc := 5) 16 dX1_compatible_5 (by decide) (fun c => ?_) (fun c => ?_)
  · refine j_iconst (pc := 16) (-1) dX1_compatible_16 (by decide) ?_
    exact j_iret R dX1_compatible_17 (⟨by rw [r_compat, if_pos c], iv'⟩)
  refine j_al0n (pc := 8) dX1_compatible_8 ?_
  refine j_il2n (pc := 9) dX1_compatible_9 ?_
  refine cl1_isState (pc := 10) dX1_compatible_10 (m1_isState ok' y) (fun r w' e => ?_)
  obtain ⟨rfl, rfl⟩ := e
  refine j_if_neB (pc := 13) 18 dX1_compatible_13 (by decide) (fun c2 => ?_) (fun c2 => ?_)
  rotate_left
  · refine j_iconst (pc := 16) (-1) dX1_compatible_16 (by decide) ?_
    exact j_iret R dX1_compatible_17 (⟨by rw [r_compat, if_neg (by rw [c]; decide), if_pos c2], iv'⟩)
  have hr : r_compat n E x y = bI (decide (lvl E 25 (cl x) (cl y) = 1000)) := by rw [r_compat, if_neg (by rw [c]; decide), if_neg (by rw [c2]; decide)]
  obtain ⟨s, -, hs, rfl⟩ := inR_nI c (by omega)
  obtain ⟨t, -, ht, rfl⟩ := inR_nI c2 (by omega)
  rw [cl_nI (by omega), cl_nI (by omega)] at hr
  have hle := lvl_le E (k := 25) (by omega) s t
  refine j_al0n (pc := 18) dX1_compatible_18 ?_
  refine cl1_refresh (pc := 19) dX1_compatible_19 (m1_refresh iv') (fun w2 e => ?_)
  obtain ⟨iv2, -, cu⟩ := e
  refine j_al0n (pc := 22) dX1_compatible_22 ?_
  refine g1_level (pc := 23) dX1_compatible_23 ?_
  refine j_iconst (pc := 26) (nI 5) dX1_compatible_26 (by decide) ?_
  refine j_il1n (pc := 27) dX1_compatible_27 ?_
  first | with_reducible refine j_imulN (pc := 28) dX1_compatible_28 ?_ | refine j_imul (pc := 28) dX1_compatible_28 ?_
  refine j_il2n (pc := 29) dX1_compatible_29 ?_
  first | with_reducible refine j_iaddN (pc := 30) dX1_compatible_30 ?_ | refine j_iadd (pc := 30) dX1_compatible_30 ?_
  refine al1_level (pc := 31) dX1_compatible_31 (by omega) (cu.1 s t hs ht) ?_
  refine j_sipush (pc := 32) (nI 1000) dX1_compatible_32 (by decide) ?_
  refine j_icmp_neN (pc := 35) 42 dX1_compatible_35 (by decide) (by omega) (by omega) (fun c3 => ?_) (fun c3 => ?_)
  · refine j_iconst (pc := 42) (bI false) dX1_compatible_42 (by decide) ?_
    exact j_iret R dX1_compatible_43 (⟨by rw [hr, decide_eq_false c3], iv2⟩)
  · refine j_iconst (pc := 38) (bI true) dX1_compatible_38 (by decide) ?_
    refine j_goto (pc := 39) 43 dX1_compatible_39 (by decide) ?_
    exact j_iret R dX1_compatible_43 (⟨by rw [hr, decide_eq_true c3], iv2⟩)
set_option maxHeartbeats 1000000 in
theorem m1_splitLength (iv : Inv1 n E st w) (x y : Int32) : Mi l D (K1 h d) yX1_splitLength cX1_splitLength 4 5 (some .int) [.ref (h 0), .int x, .int y] w (fun r w' => r = r_len n E x y ∧ Inv1 n E st w') := by
  have iv' := iv
  obtain ⟨ok, hst, h5s, hcur⟩ := iv
  have ok' := ok
  obtain ⟨h2, h5, hE3, hE, hn⟩ := ok
  refine Mi.of (by decide) rfl (by simp [Value.category]) (Nat.le_of_ble_eq_true rfl) (fun X R => ?_)
  refine j_al0n (pc := 0) dX1_splitLength_0 ?_
  refine j_il1n (pc := 1) dX1_splitLength_1 ?_
  refine cl1_isState (pc := 2) dX1_splitLength_2 (m1_isState ok' x) (fun r w' e => ?_)
  obtain ⟨rfl, rfl⟩ := e
  refine j_if_eqB (pc := 5) 16 dX1_splitLength_5 (by decide) (fun c => ?_) (fun c => ?_)
  · refine j_iconst (pc := 16) (-1) dX1_splitLength_16 (by decide) ?_
    exact j_iret R dX1_splitLength_17 (⟨by rw [r_len, if_pos c], iv'⟩)
  refine j_al0n (pc := 8) dX1_splitLength_8 ?_
  refine j_il2n (pc := 9) dX1_splitLength_9 ?_
  refine cl1_isState (pc := 10) dX1_splitLength_10 (m1_isState ok' y) (fun r w' e => ?_)
  obtain ⟨rfl, rfl⟩ := e
  refine j_if_neB (pc := 13) 18 dX1_splitLength_13 (by decide) (fun c2 => ?_) (fun c2 => ?_)
  rotate_left
  · refine j_iconst (pc := 16) (-1) dX1_splitLength_16 (by decide) ?_
    exact j_iret R dX1_splitLength_17 (⟨by rw [r_len, if_neg (by rw [c]; decide), if_pos c2], iv'⟩)
  have hr : r_len n E x y = if lvl E 25 (cl x) (cl y) = 1000 then -2 else nI (lvl E 25 (cl x) (cl y)) := by rw [r_len, if_neg (by rw [c]; decide), if_neg (by rw [c2]; decide)]
  obtain ⟨s, -, hs, rfl⟩ := inR_nI c (by omega)
  obtain ⟨t, -, ht, rfl⟩ := inR_nI c2 (by omega)
  rw [cl_nI (by omega), cl_nI (by omega)] at hr
  have hle := lvl_le E (k := 25) (by omega) s t
  refine j_al0n (pc := 18) dX1_splitLength_18 ?_
  refine cl1_refresh (pc := 19) dX1_splitLength_19 (m1_refresh iv') (fun w2 e => ?_)
  obtain ⟨iv2, -, cu⟩ := e
  refine j_al0n (pc := 22) dX1_splitLength_22 ?_
  refine g1_level (pc := 23) dX1_splitLength_23 ?_
  refine j_iconst (pc := 26) (nI 5) dX1_splitLength_26 (by decide) ?_
  refine j_il1n (pc := 27) dX1_splitLength_27 ?_
  first | with_reducible refine j_imulN (pc := 28) dX1_splitLength_28 ?_ | refine j_imul (pc := 28) dX1_splitLength_28 ?_
  refine j_il2n (pc := 29) dX1_splitLength_29 ?_
  first | with_reducible refine j_iaddN (pc := 30) dX1_splitLength_30 ?_ | refine j_iadd (pc := 30) dX1_splitLength_30 ?_
  refine al1_level (pc := 31) dX1_splitLength_31 (by omega) (cu.1 s t hs ht) ?_
  first | refine j_st3n_s (pc := 32) dX1_splitLength_32 ?_ | refine j_st3n_a (pc := 32) dX1_splitLength_32 ?_
  refine j_il3n (pc := 33) dX1_splitLength_33 ?_
  refine j_sipush (pc := 34) (nI 1000) dX1_splitLength_34 (by decide) ?_
  refine j_icmp_neN (pc := 37) 45 dX1_splitLength_37 (by decide) (by omega) (by omega) (fun c3 => ?_) (fun c3 => ?_)
  · refine j_il3n (pc := 45) dX1_splitLength_45 ?_
    exact j_iret R dX1_splitLength_46 (⟨by rw [hr, if_neg c3], iv2⟩)
  · refine j_bipush (pc := 40) (-2) dX1_splitLength_40 (by decide) ?_
    refine j_goto (pc := 42) 46 dX1_splitLength_42 (by decide) ?_
    exact j_iret R dX1_splitLength_46 (⟨by rw [hr, if_pos c3], iv2⟩)
set_option maxHeartbeats 2000000 in
theorem m1_splitWord (iv : Inv1 n E st w) (x y : Int32) : Mi l D (K1 h d) yX1_splitWord cX1_splitWord 9 5 (some .int) [.ref (h 0), .int x, .int y] w (fun r w' => r = r_word n E x y ∧ Inv1 n E st w') := by
  have iv' := iv
  obtain ⟨ok, hst, h5s, hcur⟩ := iv
  have ok' := ok
  obtain ⟨h2, h5, hE3, hE, hn⟩ := ok
  refine Mi.of (by decide) rfl (by simp [Value.category]) (Nat.le_of_ble_eq_true rfl) (fun X R => ?_)
  refine j_al0n (pc := 0) dX1_splitWord_0 ?_
  refine j_il1n (pc := 1) dX1_splitWord_1 ?_
  refine cl1_isState (pc := 2) dX1_splitWord_2 (m1_isState ok' x) (fun r w' e => ?_)
  obtain ⟨rfl, rfl⟩ := e
  refine j_if_eqB (pc := 5) 16 dX1_splitWord_5 (by decide) (fun c => ?_) (fun c => ?_)
  · refine j_iconst (pc := 16) (-1) dX1_splitWord_16 (by decide) ?_
    exact j_iret R dX1_splitWord_17 (⟨by rw [r_word, if_pos c], iv'⟩)
  refine j_al0n (pc := 8) dX1_splitWord_8 ?_
  refine j_il2n (pc := 9) dX1_splitWord_9 ?_
  refine cl1_isState (pc := 10) dX1_splitWord_10 (m1_isState ok' y) (fun r w' e => ?_)
  obtain ⟨rfl, rfl⟩ := e
  refine j_if_neB (pc := 13) 18 dX1_splitWord_13 (by decide) (fun c2 => ?_) (fun c2 => ?_)
  rotate_left
  · refine j_iconst (pc := 16) (-1) dX1_splitWord_16 (by decide) ?_
    exact j_iret R dX1_splitWord_17 (⟨by rw [r_word, if_neg (by rw [c]; decide), if_pos c2], iv'⟩)
  have hr : r_word n E x y = if lvl E 25 (cl x) (cl y) = 1000 then -2 else nI (gw E (lvl E 25 (cl x) (cl y)) (cl x) (cl y)) := by rw [r_word, if_neg (by rw [c]; decide), if_neg (by rw [c2]; decide)]
  obtain ⟨s, -, hs, rfl⟩ := inR_nI c (by omega)
  obtain ⟨t, -, ht, rfl⟩ := inR_nI c2 (by omega)
  rw [cl_nI (by omega), cl_nI (by omega)] at hr
  have hle := lvl_le E (k := 25) (by omega) s t
  refine j_al0n (pc := 18) dX1_splitWord_18 ?_
  refine cl1_refresh (pc := 19) dX1_splitWord_19 (m1_refresh iv') (fun w2 e => ?_)
  obtain ⟨iv2, -, cu⟩ := e
  refine j_al0n (pc := 22) dX1_splitWord_22 ?_
  refine g1_level (pc := 23) dX1_splitWord_23 ?_
  refine j_iconst (pc := 26) (nI 5) dX1_splitWord_26 (by decide) ?_
  refine j_il1n (pc := 27) dX1_splitWord_27 ?_
  first | with_reducible refine j_imulN (pc := 28) dX1_splitWord_28 ?_ | refine j_imul (pc := 28) dX1_splitWord_28 ?_
  refine j_il2n (pc := 29) dX1_splitWord_29 ?_
  first | with_reducible refine j_iaddN (pc := 30) dX1_splitWord_30 ?_ | refine j_iadd (pc := 30) dX1_splitWord_30 ?_
  refine al1_level (pc := 31) dX1_splitWord_31 (by omega) (cu.1 s t hs ht) ?_
  refine j_sipush (pc := 32) (nI 1000) dX1_splitWord_32 (by decide) ?_
  refine j_icmp_neN (pc := 35) 41 dX1_splitWord_35 (by decide) (by omega) (by omega) (fun c3 => ?_) (fun c3 => ?_)
  rotate_left
  · refine j_bipush (pc := 38) (-2) dX1_splitWord_38 (by decide) ?_
    exact j_iret R dX1_splitWord_40 (⟨by rw [hr, if_pos c3], iv2⟩)
  rw [if_neg c3] at hr
  have ok2 := iv2.1
  have L : ∀ L p q word, L ≤ 25 → p < n → q < n → (1 ≤ L → lvl E 25 p q = L) → word * 2 ^ L + gw E L p q = gw E (lvl E 25 s t) s t → J X (K1 h d) cX1_splitWord 9 5 61 [.ref (h 0), .int (nI s), .int (nI t), .int (nI word), .int (nI p), .int (nI q), .int (nI L)] [] w2 := by
    intro L
    induction L with
    | zero =>
      intro p q word hL hp hq hl hw
      refine j_il6 (pc := 61) dX1_splitWord_61 ?_
      refine j_if_leN (pc := 63) 130 dX1_splitWord_63 (by decide) (by omega) (fun c4 => ?_) (fun c4 => ?_)
      · refine j_il3n (pc := 130) dX1_splitWord_130 ?_
        exact j_iret R dX1_splitWord_131 (⟨by rw [hr, ← hw]; simp [gw], iv2⟩)
      · omega
    | succ L ih =>
      intro p q word hL hp hq hl hw
      have hl := hl (by omega)
      have nxt : ∀ a, a < 2 → spa E (L + 1) p q a = true → (word * 2 + a) * 2 ^ L + gw E L (nx E p a - 1) (nx E q a - 1) = gw E (lvl E 25 s t) s t → J X (K1 h d) cX1_splitWord 9 5 85 [.ref (h 0), .int (nI s), .int (nI t), .int (nI word), .int (nI p), .int (nI q), .int (nI (L + 1))] [.int (nI a)] w2 := by
        intro a ha hsp hgw
        have hgw' : (2 * word + a) * 2 ^ L + gw E L (nx E p a - 1) (nx E q a - 1) = gw E (lvl E 25 s t) s t := by rw [Nat.mul_comm 2 word]; exact hgw
        first | refine j_st7_s (pc := 85) dX1_splitWord_85 ?_ | refine j_st7_a (pc := 85) dX1_splitWord_85 ?_
        refine j_iconst (pc := 87) (nI 2) dX1_splitWord_87 (by decide) ?_
        refine j_il3n (pc := 88) dX1_splitWord_88 ?_
        first | with_reducible refine j_imulN (pc := 89) dX1_splitWord_89 ?_ | refine j_imul (pc := 89) dX1_splitWord_89 ?_
        refine j_il7 (pc := 90) dX1_splitWord_90 ?_
        first | with_reducible refine j_iaddN (pc := 92) dX1_splitWord_92 ?_ | refine j_iadd (pc := 92) dX1_splitWord_92 ?_
        first | refine j_st3n_s (pc := 93) dX1_splitWord_93 ?_ | refine j_st3n_a (pc := 93) dX1_splitWord_93 ?_
        refine j_il6 (pc := 94) dX1_splitWord_94 ?_
        refine j_iconst (pc := 96) (nI 1) dX1_splitWord_96 (by decide) ?_
        refine j_icmp_leN (pc := 97) 124 dX1_splitWord_97 (by decide) (by omega) (by omega) (fun c5 => ?_) (fun c5 => ?_)
        · obtain rfl : L = 0 := by omega
          refine j_dec6N (pc := 124) dX1_splitWord_124 (by omega) ?_
          refine j_goto (pc := 127) 61 dX1_splitWord_127 (by decide) ?_
          refine j_wk (ih p q (2 * word + a) (by omega) hp hq (fun h => by omega) ?_) ⟨_, rfl⟩
          rw [← hgw']
          simp [gw]
        · obtain ⟨k1, k2, k3⟩ := spa_next (by omega) (by omega) ha hl hsp
          have b1 := nx_le hE3 p a
          have b2 := nx_le hE3 q a
          refine j_al0n (pc := 100) dX1_splitWord_100 ?_
          refine j_il4 (pc := 101) dX1_splitWord_101 ?_
          refine j_il7 (pc := 103) dX1_splitWord_103 ?_
          refine cl1_next (pc := 105) dX1_splitWord_105 (m1_next ok2 (by omega) ha) (fun r w' e => ?_)
          obtain ⟨rfl, rfl⟩ := e
          first | refine j_st8_s (pc := 108) dX1_splitWord_108 ?_ | refine j_st8_a (pc := 108) dX1_splitWord_108 ?_
          refine j_al0n (pc := 110) dX1_splitWord_110 ?_
          refine j_il5 (pc := 111) dX1_splitWord_111 ?_
          refine j_il7 (pc := 113) dX1_splitWord_113 ?_
          refine cl1_next (pc := 115) dX1_splitWord_115 (m1_next ok2 (by omega) ha) (fun r w' e => ?_)
          obtain ⟨rfl, rfl⟩ := e
          obtain ⟨p', hp'⟩ : ∃ p', nx E p a = p' + 1 := ⟨nx E p a - 1, by omega⟩
          obtain ⟨q', hq'⟩ : ∃ q', nx E q a = q' + 1 := ⟨nx E q a - 1, by omega⟩
          rw [hp', hq'] at k3 hgw' ⊢
          simp only [no]
          first | refine j_st5_s (pc := 118) dX1_splitWord_118 ?_ | refine j_st5_a (pc := 118) dX1_splitWord_118 ?_
          refine j_il8 (pc := 120) dX1_splitWord_120 ?_
          first | refine j_st4_s (pc := 122) dX1_splitWord_122 ?_ | refine j_st4_a (pc := 122) dX1_splitWord_122 ?_
          refine j_dec6N (pc := 124) dX1_splitWord_124 (by omega) ?_
          refine j_goto (pc := 127) 61 dX1_splitWord_127 (by decide) ?_
          exact j_wk (ih p' q' (2 * word + a) (by omega) (by omega) (by omega) (fun _ => k3) hgw') ⟨_, rfl⟩
      refine j_il6 (pc := 61) dX1_splitWord_61 ?_
      refine j_if_leN (pc := 63) 130 dX1_splitWord_63 (by decide) (by omega) (fun c4 => ?_) (fun c4 => ?_)
      · omega
      refine j_al0n (pc := 66) dX1_splitWord_66 ?_
      refine j_il4 (pc := 67) dX1_splitWord_67 ?_
      refine j_il5 (pc := 69) dX1_splitWord_69 ?_
      refine j_iconst (pc := 71) (nI 0) dX1_splitWord_71 (by decide) ?_
      refine j_il6 (pc := 72) dX1_splitWord_72 ?_
      refine cl1_splits (pc := 74) dX1_splitWord_74 (m1_splits ok2 (L := L + 1) hp hq (by omega) (by omega) (by omega)) (fun r w' e => ?_)
      obtain ⟨rfl, rfl⟩ := e
      have hs0 : (if L + 1 = 1 then dif E p q 0 else stp E (fun p q => decide (w2 1 (5 * p + q) = nI (L + 1 - 1))) p q 0) = spa E (L + 1) p q 0 := by
        rw [← spa_25 (by omega) (by omega) (by omega) hl]
        by_cases hk0 : L + 1 = 1
        · rw [if_pos hk0, if_pos hk0]
        · rw [if_neg hk0, if_neg hk0]
          apply stp_congr
          intro h1 h3
          have b1 := nx_le hE3 p 0
          have b2 := nx_le hE3 q 0
          have l1 := lvl_le E (k := 25) (by omega) (nx E p 0 - 1) (nx E q 0 - 1)
          rw [cu.1 _ _ (by omega) (by omega)]
          apply decide_eq_decide.mpr
          rw [nI_eq (by omega) (by omega)]
      rw [hs0]
      refine j_if_eqB (pc := 77) 84 dX1_splitWord_77 (by decide) (fun c4 => ?_) (fun c4 => ?_)
      · refine j_iconst (pc := 84) (nI 1) dX1_splitWord_84 (by decide) ?_
        refine nxt 1 (by omega) (spa_one (by omega) hL hl c4) ?_
        rw [← hw, gw, if_neg (by rw [c4]; decide), Nat.pow_succ, Nat.add_mul, Nat.one_mul, Nat.mul_assoc, Nat.mul_comm 2 (2 ^ L)]
        omega
      · refine j_iconst (pc := 80) (nI 0) dX1_splitWord_80 (by decide) ?_
        refine j_goto (pc := 81) 85 dX1_splitWord_81 (by decide) ?_
        refine nxt 0 (by omega) c4 ?_
        rw [← hw, gw, if_pos c4, Nat.pow_succ, Nat.add_zero, Nat.mul_assoc, Nat.mul_comm 2 (2 ^ L)]
  have h25 : lvl E 25 s t ≤ 25 := by rcases lvl_or E 25 s t with q | q <;> omega
  refine j_iconst (pc := 41) (nI 0) dX1_splitWord_41 (by decide) ?_
  first | refine j_st3n_s (pc := 42) dX1_splitWord_42 ?_ | refine j_st3n_a (pc := 42) dX1_splitWord_42 ?_
  refine j_il1n (pc := 43) dX1_splitWord_43 ?_
  first | refine j_st4_s (pc := 44) dX1_splitWord_44 ?_ | refine j_st4_a (pc := 44) dX1_splitWord_44 ?_
  refine j_il2n (pc := 46) dX1_splitWord_46 ?_
  first | refine j_st5_s (pc := 47) dX1_splitWord_47 ?_ | refine j_st5_a (pc := 47) dX1_splitWord_47 ?_
  refine j_al0n (pc := 49) dX1_splitWord_49 ?_
  refine g1_level (pc := 50) dX1_splitWord_50 ?_
  refine j_iconst (pc := 53) (nI 5) dX1_splitWord_53 (by decide) ?_
  refine j_il1n (pc := 54) dX1_splitWord_54 ?_
  first | with_reducible refine j_imulN (pc := 55) dX1_splitWord_55 ?_ | refine j_imul (pc := 55) dX1_splitWord_55 ?_
  refine j_il2n (pc := 56) dX1_splitWord_56 ?_
  first | with_reducible refine j_iaddN (pc := 57) dX1_splitWord_57 ?_ | refine j_iadd (pc := 57) dX1_splitWord_57 ?_
  refine al1_level (pc := 58) dX1_splitWord_58 (by omega) (cu.1 s t hs ht) ?_
  first | refine j_st6_s (pc := 59) dX1_splitWord_59 ?_ | refine j_st6_a (pc := 59) dX1_splitWord_59 ?_
  exact L (lvl E 25 s t) s t 0 h25 hs ht (fun _ => rfl) (by omega)
end S1
end
section
/-! the public methods of X1, the rest -/
set_option maxRecDepth 100000
section S1
variable {l : Launch} {D : va_G} {h : Nat → Nat} {d : Nat → ClassId} {w : Wd} {n : Nat} {E : Nat → Nat} {st : Nat}
set_option maxHeartbeats 1000000 in
theorem m1_statesP (iv : Inv1 n E st w) : Mi l D (K1 h d) yX1_states cX1_states 1 0 (some .int) [.ref (h 0)] w (fun r w' => r = nI n ∧ Inv1 n E st w') := by
  have iv' := iv
  obtain ⟨⟨h2, h5, hE3, hE, hn⟩, hst, h5s, hcur⟩ := iv
  refine Mi.of (by decide) rfl (by simp [Value.category]) (Nat.le_of_ble_eq_true rfl) (fun X R => ?_)
  refine j_al0n (pc := 0) dX1_states_0 ?_
  refine g1_n (pc := 1) dX1_states_1 (by first | assumption | rfl) ?_
  exact j_iret R dX1_states_4 (⟨rfl, iv'⟩)
set_option maxHeartbeats 1000000 in
theorem m1_compatibleSet (iv : Inv1 n E st w) (x : Int32) : Mi l D (K1 h d) yX1_compatibleSet cX1_compatibleSet 2 5 (some .int) [.ref (h 0), .int x] w (fun r w' => r = r_cset n E x ∧ Inv1 n E st w') := by
  have iv' := iv
  obtain ⟨ok, hst, h5s, hcur⟩ := iv
  have ok' := ok
  obtain ⟨h2, h5, hE3, hE, hn⟩ := ok
  have hp := p2_le h5
  refine Mi.of (by decide) rfl (by simp [Value.category]) (Nat.le_of_ble_eq_true rfl) (fun X R => ?_)
  refine j_al0n (pc := 0) dX1_compatibleSet_0 ?_
  refine j_il1n (pc := 1) dX1_compatibleSet_1 ?_
  refine cl1_isSet (pc := 2) dX1_compatibleSet_2 (m1_isSet ok' x) (fun r w' e => ?_)
  obtain ⟨rfl, rfl⟩ := e
  refine j_if_neB (pc := 5) 10 dX1_compatibleSet_5 (by decide) (fun c => ?_) (fun c => ?_)
  rotate_left
  · refine j_iconst (pc := 8) (-1) dX1_compatibleSet_8 (by decide) ?_
    exact j_iret R dX1_compatibleSet_9 (⟨by rw [r_cset, if_pos c], iv'⟩)
  have hr : r_cset n E x = bI (hold n (lvl E 25) (cl x)) := by rw [r_cset, if_neg (by rw [c]; decide)]
  obtain ⟨s, -, hs, rfl⟩ := inR_nI c (by omega)
  rw [cl_nI (by omega)] at hr
  refine j_al0n (pc := 10) dX1_compatibleSet_10 ?_
  refine cl1_refresh (pc := 11) dX1_compatibleSet_11 (m1_refresh iv') (fun w2 e => ?_)
  obtain ⟨iv2, -, cu⟩ := e
  refine j_al0n (pc := 14) dX1_compatibleSet_14 ?_
  refine j_il1n (pc := 15) dX1_compatibleSet_15 ?_
  refine cl1_holdsTogether (pc := 16) dX1_compatibleSet_16 (m1_holdsTogether iv2.1 (lv := lvl E 25) cu.1 (fun s t => lvl_le E (by omega) s t) (by omega)) (fun r w' e => ?_)
  obtain ⟨rfl, rfl⟩ := e
  refine j_if_eqB (pc := 19) 26 dX1_compatibleSet_19 (by decide) (fun c2 => ?_) (fun c2 => ?_)
  · refine j_iconst (pc := 26) (bI false) dX1_compatibleSet_26 (by decide) ?_
    exact j_iret R dX1_compatibleSet_27 (⟨by rw [hr, c2], iv2⟩)
  · refine j_iconst (pc := 22) (bI true) dX1_compatibleSet_22 (by decide) ?_
    refine j_goto (pc := 23) 27 dX1_compatibleSet_23 (by decide) ?_
    exact j_iret R dX1_compatibleSet_27 (⟨by rw [hr, c2], iv2⟩)
set_option maxHeartbeats 1000000 in
theorem m1_maximals (iv : Inv1 n E st w) : Mi l D (K1 h d) yX1_maximals cX1_maximals 1 5 (some .int) [.ref (h 0)] w (fun r w' => r = nI (MX n E).length ∧ Inv1 n E st w') := by
  refine Mi.of (by decide) rfl (by simp [Value.category]) (Nat.le_of_ble_eq_true rfl) (fun X R => ?_)
  refine j_al0n (pc := 0) dX1_maximals_0 ?_
  refine cl1_refresh (pc := 1) dX1_maximals_1 (m1_refresh iv) (fun w2 e => ?_)
  obtain ⟨iv2, -, cu⟩ := e
  refine j_al0n (pc := 4) dX1_maximals_4 ?_
  refine g1_largestCount (pc := 5) dX1_maximals_5 (cu.2.1) ?_
  exact j_iret R dX1_maximals_8 (⟨rfl, iv2⟩)
set_option maxHeartbeats 1000000 in
theorem m1_maximal (iv : Inv1 n E st w) (x : Int32) : Mi l D (K1 h d) yX1_maximal cX1_maximal 2 5 (some .int) [.ref (h 0), .int x] w (fun r w' => r = r_max n E x ∧ Inv1 n E st w') := by
  have hml := MX_len (n := n) (E := E) iv.1.2.1
  refine Mi.of (by decide) rfl (by simp [Value.category]) (Nat.le_of_ble_eq_true rfl) (fun X R => ?_)
  refine j_al0n (pc := 0) dX1_maximal_0 ?_
  refine cl1_refresh (pc := 1) dX1_maximal_1 (m1_refresh iv) (fun w2 e => ?_)
  obtain ⟨iv2, -, cu⟩ := e
  refine j_il1n (pc := 4) dX1_maximal_4 ?_
  refine j_if_lt (pc := 5) 25 dX1_maximal_5 (by decide) (fun c => ?_) (fun c => ?_)
  · rw [i_lt0] at c
    refine j_iconst (pc := 25) (-1) dX1_maximal_25 (by decide) ?_
    exact j_iret R dX1_maximal_26 (⟨by rw [r_max, if_pos (inR_f (by omega))], iv2⟩)
  rw [i_lt0] at c
  refine j_il1n (pc := 8) dX1_maximal_8 ?_
  refine j_al0n (pc := 9) dX1_maximal_9 ?_
  refine g1_largestCount (pc := 10) dX1_maximal_10 (cu.2.1) ?_
  refine j_icmp_ge (pc := 13) 25 dX1_maximal_13 (by decide) (fun c2 => ?_) (fun c2 => ?_)
  · rw [i_len (by omega)] at c2
    refine j_iconst (pc := 25) (-1) dX1_maximal_25 (by decide) ?_
    exact j_iret R dX1_maximal_26 (⟨by rw [r_max, if_pos (inR_f (by omega))], iv2⟩)
  rw [i_len (by omega)] at c2
  have c3 : inR 0 (MX n E).length x = true := inR_t (by omega) (by omega)
  have hr : r_max n E x = nI ((MX n E).getD (cl x) 0) := by rw [r_max, if_neg (by rw [c3]; decide)]
  obtain ⟨i, -, hi, rfl⟩ := inR_nI c3 (by omega)
  rw [cl_nI (by omega)] at hr
  refine j_al0n (pc := 16) dX1_maximal_16 ?_
  refine g1_largest (pc := 17) dX1_maximal_17 ?_
  refine j_il1n (pc := 20) dX1_maximal_20 ?_
  refine al1_largest (pc := 21) dX1_maximal_21 (by omega) (cu.2.2.1 i hi) ?_
  refine j_goto (pc := 22) 26 dX1_maximal_22 (by decide) ?_
  exact j_iret R dX1_maximal_26 (⟨hr.symm, iv2⟩)
set_option maxHeartbeats 1000000 in
theorem m1_implied (iv : Inv1 n E st w) (x a : Int32) : Mi l D (K1 h d) yX1_implied cX1_implied 3 2 (some .int) [.ref (h 0), .int x, .int a] w (fun r w' => r = r_impl n E x a ∧ Inv1 n E st w') := by
  have iv' := iv
  obtain ⟨ok, hst, h5s, hcur⟩ := iv
  have ok' := ok
  obtain ⟨h2, h5, hE3, hE, hn⟩ := ok
  have hp := p2_le h5
  refine Mi.of (by decide) rfl (by simp [Value.category]) (Nat.le_of_ble_eq_true rfl) (fun X R => ?_)
  refine j_al0n (pc := 0) dX1_implied_0 ?_
  refine j_il1n (pc := 1) dX1_implied_1 ?_
  refine cl1_isSet (pc := 2) dX1_implied_2 (m1_isSet ok' x) (fun r w' e => ?_)
  obtain ⟨rfl, rfl⟩ := e
  refine j_if_neB (pc := 5) 10 dX1_implied_5 (by decide) (fun c => ?_) (fun c => ?_)
  rotate_left
  · refine j_iconst (pc := 8) (-1) dX1_implied_8 (by decide) ?_
    exact j_iret R dX1_implied_9 (⟨by rw [r_impl, if_pos c], iv'⟩)
  refine j_il2n (pc := 10) dX1_implied_10 ?_
  refine cl1_isInput (pc := 11) dX1_implied_11 (m1_isInput a) (fun r w' e => ?_)
  obtain ⟨rfl, rfl⟩ := e
  refine j_if_eqB (pc := 14) 26 dX1_implied_14 (by decide) (fun c2 => ?_) (fun c2 => ?_)
  · refine j_bipush (pc := 26) (-2) dX1_implied_26 (by decide) ?_
    exact j_iret R dX1_implied_28 (⟨by rw [r_impl, if_neg (by rw [c]; decide), if_pos c2], iv'⟩)
  have hr : r_impl n E x a = nI (imN E (cl x) (cl a) n) := by rw [r_impl, if_neg (by rw [c]; decide), if_neg (by rw [c2]; decide)]
  obtain ⟨s, -, hs, rfl⟩ := inR_nI c (by omega)
  obtain ⟨b, -, hb, rfl⟩ := inR_nI c2 (by omega)
  rw [cl_nI (by omega), cl_nI (by omega)] at hr
  refine j_al0n (pc := 17) dX1_implied_17 ?_
  refine j_il1n (pc := 18) dX1_implied_18 ?_
  refine j_il2n (pc := 19) dX1_implied_19 ?_
  refine cl1_image (pc := 20) dX1_implied_20 (m1_image ok' (by omega) hb) (fun r w' e => ?_)
  obtain ⟨rfl, rfl⟩ := e
  refine j_goto (pc := 23) 28 dX1_implied_23 (by decide) ?_
  exact j_iret R dX1_implied_28 (⟨hr.symm, iv'⟩)
set_option maxHeartbeats 1000000 in
theorem m1_coverSize (iv : Inv1 n E st w) : Mi l D (K1 h d) yX1_coverSize cX1_coverSize 1 5 (some .int) [.ref (h 0)] w (fun r w' => (∃ k cv, IsB n E k cv ∧ r = nI k) ∧ Inv1 n E st w') := by
  refine Mi.of (by decide) rfl (by simp [Value.category]) (Nat.le_of_ble_eq_true rfl) (fun X R => ?_)
  refine j_al0n (pc := 0) dX1_coverSize_0 ?_
  refine cl1_refresh (pc := 1) dX1_coverSize_1 (m1_refresh iv) (fun w2 e => ?_)
  obtain ⟨iv2, -, -, -, -, k, cv, hB, e3, -⟩ := e
  refine j_al0n (pc := 4) dX1_coverSize_4 ?_
  refine g1_coverCount (pc := 5) dX1_coverSize_5 (e3) ?_
  exact j_iret R dX1_coverSize_8 (⟨⟨k, cv, hB, rfl⟩, iv2⟩)
set_option maxHeartbeats 1000000 in
theorem m1_coverSet (iv : Inv1 n E st w) (x : Int32) : Mi l D (K1 h d) yX1_coverSet cX1_coverSet 2 5 (some .int) [.ref (h 0), .int x] w (fun r w' => (∃ k cv, IsB n E k cv ∧ r = if inR 0 k x = false then -1 else nI (cv (cl x))) ∧ Inv1 n E st w') := by
  have h5 := iv.1.2.1
  refine Mi.of (by decide) rfl (by simp [Value.category]) (Nat.le_of_ble_eq_true rfl) (fun X R => ?_)
  refine j_al0n (pc := 0) dX1_coverSet_0 ?_
  refine cl1_refresh (pc := 1) dX1_coverSet_1 (m1_refresh iv) (fun w2 e => ?_)
  obtain ⟨iv2, -, -, -, -, k, cv, hB, e3, e4, -⟩ := e
  have hk := hB.le
  refine j_il1n (pc := 4) dX1_coverSet_4 ?_
  refine j_if_lt (pc := 5) 25 dX1_coverSet_5 (by decide) (fun c => ?_) (fun c => ?_)
  · rw [i_lt0] at c
    refine j_iconst (pc := 25) (-1) dX1_coverSet_25 (by decide) ?_
    exact j_iret R dX1_coverSet_26 (⟨⟨k, cv, hB, by rw [if_pos (inR_f (by omega))]⟩, iv2⟩)
  rw [i_lt0] at c
  refine j_il1n (pc := 8) dX1_coverSet_8 ?_
  refine j_al0n (pc := 9) dX1_coverSet_9 ?_
  refine g1_coverCount (pc := 10) dX1_coverSet_10 (e3) ?_
  refine j_icmp_ge (pc := 13) 25 dX1_coverSet_13 (by decide) (fun c2 => ?_) (fun c2 => ?_)
  · rw [i_len (by omega)] at c2
    refine j_iconst (pc := 25) (-1) dX1_coverSet_25 (by decide) ?_
    exact j_iret R dX1_coverSet_26 (⟨⟨k, cv, hB, by rw [if_pos (inR_f (by omega))]⟩, iv2⟩)
  rw [i_len (by omega)] at c2
  have c3 : inR 0 k x = true := inR_t (by omega) (by omega)
  have hr : (if inR 0 k x = false then -1 else nI (cv (cl x))) = nI (cv (cl x)) := by rw [if_neg (by rw [c3]; decide)]
  obtain ⟨i, -, hi, rfl⟩ := inR_nI c3 (by omega)
  rw [cl_nI (by omega)] at hr
  refine j_al0n (pc := 16) dX1_coverSet_16 ?_
  refine g1_cover (pc := 17) dX1_coverSet_17 ?_
  refine j_il1n (pc := 20) dX1_coverSet_20 ?_
  refine al1_cover (pc := 21) dX1_coverSet_21 (by omega) (e4 i hi) ?_
  refine j_goto (pc := 22) 26 dX1_coverSet_22 (by decide) ?_
  exact j_iret R dX1_coverSet_26 (⟨⟨k, cv, hB, by rw [cl_nI (by omega)]; exact hr.symm⟩, iv2⟩)
set_option maxHeartbeats 2000000 in
theorem m1_isCover (iv : Inv1 n E st w) (x y z : Int32) : Mi l D (K1 h d) yX1_isCover cX1_isCover 10 5 (some .int) [.ref (h 0), .int x, .int y, .int z] w (fun r w' => r = r_cov n E x y z ∧ Inv1 n E st w') := by
  have iv' := iv
  obtain ⟨ok, hst, h5s, hcur⟩ := iv
  have ok' := ok
  obtain ⟨h2, h5, hE3, hE, hn⟩ := ok
  have hp := p2_le h5
  have hp4 := p2_ge h2
  refine Mi.of (by decide) rfl (by simp [Value.category]) (Nat.le_of_ble_eq_true rfl) (fun X R => ?_)
  have bad : r_cov n E x y z = -1 → J X (K1 h d) cX1_isCover 10 5 38 [.ref (h 0), .int x, .int y, .int z, .int (nI (2 ^ n))] [] w := by
    intro q
    refine j_iconst (pc := 38) (-1) dX1_isCover_38 (by decide) ?_
    exact j_iret R dX1_isCover_39 (⟨q.symm, iv'⟩)
  refine j_iconst (pc := 0) (nI 1) dX1_isCover_0 (by decide) ?_
  refine j_al0n (pc := 1) dX1_isCover_1 ?_
  refine g1_n (pc := 2) dX1_isCover_2 (by first | assumption | rfl) ?_
  refine j_ishl1 (pc := 5) dX1_isCover_5 (by omega) ?_
  first | refine j_st4_s (pc := 6) dX1_isCover_6 ?_ | refine j_st4_a (pc := 6) dX1_isCover_6 ?_
  refine j_il1n (pc := 8) dX1_isCover_8 ?_
  refine j_if_lt (pc := 9) 38 dX1_isCover_9 (by decide) (fun c1 => ?_) (fun c1 => ?_)
  · rw [i_lt0] at c1
    exact bad (by rw [r_cov, if_pos (inR_f (by omega))])
  rw [i_lt0] at c1
  refine j_il1n (pc := 12) dX1_isCover_12 ?_
  refine j_il4 (pc := 13) dX1_isCover_13 ?_
  refine j_icmp_ge (pc := 15) 38 dX1_isCover_15 (by decide) (fun c2 => ?_) (fun c2 => ?_)
  · rw [i_len (by omega)] at c2
    exact bad (by rw [r_cov, if_pos (inR_f (by omega))])
  rw [i_len (by omega)] at c2
  have cA : inR 0 (2 ^ n) x = true := inR_t (by omega) (by omega)
  refine j_il2n (pc := 18) dX1_isCover_18 ?_
  refine j_if_lt (pc := 19) 38 dX1_isCover_19 (by decide) (fun c3 => ?_) (fun c3 => ?_)
  · rw [i_lt0] at c3
    exact bad (by rw [r_cov, if_neg (by rw [cA]; decide), if_pos (inR_f (by omega))])
  rw [i_lt0] at c3
  refine j_il2n (pc := 22) dX1_isCover_22 ?_
  refine j_il4 (pc := 23) dX1_isCover_23 ?_
  refine j_icmp_ge (pc := 25) 38 dX1_isCover_25 (by decide) (fun c4 => ?_) (fun c4 => ?_)
  · rw [i_len (by omega)] at c4
    exact bad (by rw [r_cov, if_neg (by rw [cA]; decide), if_pos (inR_f (by omega))])
  rw [i_len (by omega)] at c4
  have cB : inR 0 (2 ^ n) y = true := inR_t (by omega) (by omega)
  refine j_il3n (pc := 28) dX1_isCover_28 ?_
  refine j_if_lt (pc := 29) 38 dX1_isCover_29 (by decide) (fun c5 => ?_) (fun c5 => ?_)
  · rw [i_lt0] at c5
    exact bad (by rw [r_cov, if_neg (by rw [cA]; decide), if_neg (by rw [cB]; decide), if_pos (inR_f (by omega))])
  rw [i_lt0] at c5
  refine j_il3n (pc := 32) dX1_isCover_32 ?_
  refine j_il4 (pc := 33) dX1_isCover_33 ?_
  refine j_icmp_lt (pc := 35) 40 dX1_isCover_35 (by decide) (fun c6 => ?_) (fun c6 => ?_)
  rotate_left
  · rw [i_ltn (by omega)] at c6
    exact bad (by rw [r_cov, if_neg (by rw [cA]; decide), if_neg (by rw [cB]; decide), if_pos (inR_f (by omega))])
  rw [i_ltn (by omega)] at c6
  have cC : inR 0 (2 ^ n) z = true := inR_t (by omega) (by omega)
  have hr : r_cov n E x y z = if cl x ||| cl y ||| cl z = 0 then -1 else bI (isCov n E (cl x) (cl y) (cl z)) := by rw [r_cov, if_neg (by rw [cA]; decide), if_neg (by rw [cB]; decide), if_neg (by rw [cC]; decide)]
  obtain ⟨a, -, ha, rfl⟩ := inR_nI cA (by omega)
  obtain ⟨b, -, hb, rfl⟩ := inR_nI cB (by omega)
  obtain ⟨c, -, hc, rfl⟩ := inR_nI cC (by omega)
  rw [cl_nI (by omega), cl_nI (by omega), cl_nI (by omega)] at hr
  have hor : a ||| b ||| c < 2 ^ n := Nat.or_lt_two_pow (Nat.or_lt_two_pow ha hb) hc
  refine j_il1n (pc := 40) dX1_isCover_40 ?_
  refine j_il2n (pc := 41) dX1_isCover_41 ?_
  first | with_reducible refine j_iorN (pc := 42) dX1_isCover_42 ?_ | refine j_ior (pc := 42) dX1_isCover_42 ?_
  refine j_il3n (pc := 43) dX1_isCover_43 ?_
  first | with_reducible refine j_iorN (pc := 44) dX1_isCover_44 ?_ | refine j_ior (pc := 44) dX1_isCover_44 ?_
  refine j_if_neN (pc := 45) 50 dX1_isCover_45 (by decide) (by omega) (fun c7 => ?_) (fun c7 => ?_)
  rotate_left
  · refine j_iconst (pc := 48) (-1) dX1_isCover_48 (by decide) ?_
    exact j_iret R dX1_isCover_49 (⟨by rw [hr, if_pos c7], iv'⟩)
  rw [if_neg c7] at hr
  refine j_al0n (pc := 50) dX1_isCover_50 ?_
  refine cl1_refresh (pc := 51) dX1_isCover_51 (m1_refresh iv') (fun w2 e => ?_)
  obtain ⟨iv2, -, cu⟩ := e
  have ok2 := iv2.1
  have zero : isCov n E a b c = false → J X (K1 h d) cX1_isCover 10 5 90 [.ref (h 0), .int (nI a), .int (nI b), .int (nI c), .int (nI (2 ^ n))] [] w2 := by
    intro q
    refine j_iconst (pc := 90) (bI false) dX1_isCover_90 (by decide) ?_
    exact j_iret R dX1_isCover_91 (⟨by rw [hr, q], iv2⟩)
  refine j_al0n (pc := 54) dX1_isCover_54 ?_
  refine j_il1n (pc := 55) dX1_isCover_55 ?_
  refine cl1_holdsTogether (pc := 56) dX1_isCover_56 (m1_holdsTogether ok2 (lv := lvl E 25) cu.1 (fun s t => lvl_le E (by omega) s t) (by omega)) (fun r w' e => ?_)
  obtain ⟨rfl, rfl⟩ := e
  refine j_if_eqB (pc := 59) 90 dX1_isCover_59 (by decide) (fun d1 => ?_) (fun d1 => ?_)
  · exact zero (by simp [isCov, d1])
  refine j_al0n (pc := 62) dX1_isCover_62 ?_
  refine j_il2n (pc := 63) dX1_isCover_63 ?_
  refine cl1_holdsTogether (pc := 64) dX1_isCover_64 (m1_holdsTogether ok2 (lv := lvl E 25) cu.1 (fun s t => lvl_le E (by omega) s t) (by omega)) (fun r w' e => ?_)
  obtain ⟨rfl, rfl⟩ := e
  refine j_if_eqB (pc := 67) 90 dX1_isCover_67 (by decide) (fun d2 => ?_) (fun d2 => ?_)
  · exact zero (by simp [isCov, d2])
  refine j_al0n (pc := 70) dX1_isCover_70 ?_
  refine j_il3n (pc := 71) dX1_isCover_71 ?_
  refine cl1_holdsTogether (pc := 72) dX1_isCover_72 (m1_holdsTogether ok2 (lv := lvl E 25) cu.1 (fun s t => lvl_le E (by omega) s t) (by omega)) (fun r w' e => ?_)
  obtain ⟨rfl, rfl⟩ := e
  refine j_if_eqB (pc := 75) 90 dX1_isCover_75 (by decide) (fun d3 => ?_) (fun d3 => ?_)
  · exact zero (by simp [isCov, d3])
  refine j_il1n (pc := 78) dX1_isCover_78 ?_
  refine j_il2n (pc := 79) dX1_isCover_79 ?_
  first | with_reducible refine j_iorN (pc := 80) dX1_isCover_80 ?_ | refine j_ior (pc := 80) dX1_isCover_80 ?_
  refine j_il3n (pc := 81) dX1_isCover_81 ?_
  first | with_reducible refine j_iorN (pc := 82) dX1_isCover_82 ?_ | refine j_ior (pc := 82) dX1_isCover_82 ?_
  refine j_il4 (pc := 83) dX1_isCover_83 ?_
  refine j_iconst (pc := 85) (nI 1) dX1_isCover_85 (by decide) ?_
  first | with_reducible refine j_isubN (pc := 86) dX1_isCover_86 (by omega) ?_ | refine j_isub (pc := 86) dX1_isCover_86 ?_
  refine j_icmp_eqN (pc := 87) 92 dX1_isCover_87 (by decide) (by omega) (by omega) (fun d4 => ?_) (fun d4 => ?_)
  rotate_left
  · exact zero (by simp [isCov, d4])
  have hcov : isCov n E a b c = clB E n a b c 2 := by simp [isCov, d1, d2, d3, d4]
  have L : ∀ m i, i + m = 2 → J X (K1 h d) cX1_isCover 10 5 98 [.ref (h 0), .int (nI a), .int (nI b), .int (nI c), .int (nI (2 ^ n)), .int (bI (clB E n a b c i)), .int (nI i)] [] w2 := by
    intro m
    induction m with
    | zero =>
      intro i hi
      obtain rfl : i = 2 := by omega
      refine j_il6 (pc := 98) dX1_isCover_98 ?_
      refine j_iconst (pc := 100) (nI 2) dX1_isCover_100 (by decide) ?_
      refine j_icmp_geN (pc := 101) 182 dX1_isCover_101 (by decide) (by omega) (by omega) (fun g1 => ?_) (fun g1 => ?_)
      · refine j_il5 (pc := 182) dX1_isCover_182 ?_
        refine j_if_eqB (pc := 184) 191 dX1_isCover_184 (by decide) (fun g2 => ?_) (fun g2 => ?_)
        · refine j_iconst (pc := 191) (bI false) dX1_isCover_191 (by decide) ?_
          exact j_iret R dX1_isCover_192 (⟨by rw [hr, hcov, g2], iv2⟩)
        · refine j_iconst (pc := 187) (bI true) dX1_isCover_187 (by decide) ?_
          refine j_goto (pc := 188) 192 dX1_isCover_188 (by decide) ?_
          exact j_iret R dX1_isCover_192 (⟨by rw [hr, hcov, g2], iv2⟩)
      · omega
    | succ m ih =>
      intro i hi
      have ia := imN_lt hE3 a i n
      have ib := imN_lt hE3 b i n
      have ic := imN_lt hE3 c i n
      have nxt : ∀ v, v = clB E n a b c (i + 1) → J X (K1 h d) cX1_isCover 10 5 174 [.ref (h 0), .int (nI a), .int (nI b), .int (nI c), .int (nI (2 ^ n)), .int (bI (clB E n a b c i)), .int (nI i), .int (nI (imN E a i n)), .int (nI (imN E b i n)), .int (nI (imN E c i n))] [.int (bI v)] w2 := by
        intro v q
        subst q
        first | refine j_st5_s (pc := 174) dX1_isCover_174 ?_ | refine j_st5_a (pc := 174) dX1_isCover_174 ?_
        refine j_inc6N (pc := 176) dX1_isCover_176 ?_
        refine j_goto (pc := 179) 98 dX1_isCover_179 (by decide) ?_
        exact j_wk (ih (i + 1) (by omega)) ⟨_, rfl⟩
      have no3 : ¬ (clB E n a b c i = true ∧ in3 (imN E a i n) a b c ∧ in3 (imN E b i n) a b c ∧ in3 (imN E c i n) a b c) → J X (K1 h d) cX1_isCover 10 5 173 [.ref (h 0), .int (nI a), .int (nI b), .int (nI c), .int (nI (2 ^ n)), .int (bI (clB E n a b c i)), .int (nI i), .int (nI (imN E a i n)), .int (nI (imN E b i n)), .int (nI (imN E c i n))] [] w2 := by
        intro q
        refine j_iconst (pc := 173) (bI false) dX1_isCover_173 (by decide) ?_
        refine nxt false (decide_eq_false (fun q2 => q ⟨decide_eq_true (fun j hj => q2 j (by omega)), q2 i (by omega)⟩)).symm
      refine j_il6 (pc := 98) dX1_isCover_98 ?_
      refine j_iconst (pc := 100) (nI 2) dX1_isCover_100 (by decide) ?_
      refine j_icmp_geN (pc := 101) 182 dX1_isCover_101 (by decide) (by omega) (by omega) (fun g1 => ?_) (fun g1 => ?_)
      · omega
      refine j_al0n (pc := 104) dX1_isCover_104 ?_
      refine j_il1n (pc := 105) dX1_isCover_105 ?_
      refine j_il6 (pc := 106) dX1_isCover_106 ?_
      refine cl1_image (pc := 108) dX1_isCover_108 (m1_image ok2 (by omega) (by omega)) (fun r w' e => ?_)
      obtain ⟨rfl, rfl⟩ := e
      first | refine j_st7_s (pc := 111) dX1_isCover_111 ?_ | refine j_st7_a (pc := 111) dX1_isCover_111 ?_
      refine j_al0n (pc := 113) dX1_isCover_113 ?_
      refine j_il2n (pc := 114) dX1_isCover_114 ?_
      refine j_il6 (pc := 115) dX1_isCover_115 ?_
      refine cl1_image (pc := 117) dX1_isCover_117 (m1_image ok2 (by omega) (by omega)) (fun r w' e => ?_)
      obtain ⟨rfl, rfl⟩ := e
      first | refine j_st8_s (pc := 120) dX1_isCover_120 ?_ | refine j_st8_a (pc := 120) dX1_isCover_120 ?_
      refine j_al0n (pc := 122) dX1_isCover_122 ?_
      refine j_il3n (pc := 123) dX1_isCover_123 ?_
      refine j_il6 (pc := 124) dX1_isCover_124 ?_
      refine cl1_image (pc := 126) dX1_isCover_126 (m1_image ok2 (by omega) (by omega)) (fun r w' e => ?_)
      obtain ⟨rfl, rfl⟩ := e
      first | refine j_st9_s (pc := 129) dX1_isCover_129 ?_ | refine j_st9_a (pc := 129) dX1_isCover_129 ?_
      refine j_il5 (pc := 131) dX1_isCover_131 ?_
      refine j_if_eqB (pc := 133) 173 dX1_isCover_133 (by decide) (fun g2 => ?_) (fun g2 => ?_)
      · exact no3 (fun q => by rw [g2] at q; exact absurd q.1 (by decide))
      refine j_il7 (pc := 136) dX1_isCover_136 ?_
      refine j_il1n (pc := 138) dX1_isCover_138 ?_
      refine j_il2n (pc := 139) dX1_isCover_139 ?_
      refine j_il3n (pc := 140) dX1_isCover_140 ?_
      refine cl1_inOne (pc := 141) dX1_isCover_141 (m1_inOne (by omega) (by omega) (by omega) (by omega)) (fun r w' e => ?_)
      obtain ⟨rfl, rfl⟩ := e
      refine j_if_eqB (pc := 144) 173 dX1_isCover_144 (by decide) (fun g3 => ?_) (fun g3 => ?_)
      · exact no3 (fun q => of_decide_eq_false g3 q.2.1)
      refine j_il8 (pc := 147) dX1_isCover_147 ?_
      refine j_il1n (pc := 149) dX1_isCover_149 ?_
      refine j_il2n (pc := 150) dX1_isCover_150 ?_
      refine j_il3n (pc := 151) dX1_isCover_151 ?_
      refine cl1_inOne (pc := 152) dX1_isCover_152 (m1_inOne (by omega) (by omega) (by omega) (by omega)) (fun r w' e => ?_)
      obtain ⟨rfl, rfl⟩ := e
      refine j_if_eqB (pc := 155) 173 dX1_isCover_155 (by decide) (fun g4 => ?_) (fun g4 => ?_)
      · exact no3 (fun q => of_decide_eq_false g4 q.2.2.1)
      refine j_il9 (pc := 158) dX1_isCover_158 ?_
      refine j_il1n (pc := 160) dX1_isCover_160 ?_
      refine j_il2n (pc := 161) dX1_isCover_161 ?_
      refine j_il3n (pc := 162) dX1_isCover_162 ?_
      refine cl1_inOne (pc := 163) dX1_isCover_163 (m1_inOne (by omega) (by omega) (by omega) (by omega)) (fun r w' e => ?_)
      obtain ⟨rfl, rfl⟩ := e
      refine j_if_eqB (pc := 166) 173 dX1_isCover_166 (by decide) (fun g5 => ?_) (fun g5 => ?_)
      · exact no3 (fun q => of_decide_eq_false g5 q.2.2.2)
      refine j_iconst (pc := 169) (bI true) dX1_isCover_169 (by decide) ?_
      refine j_goto (pc := 170) 174 dX1_isCover_170 (by decide) ?_
      refine nxt true (decide_eq_true (fun j hj => ?_)).symm
      by_cases e : j = i
      · rw [e]
        exact ⟨of_decide_eq_true g3, of_decide_eq_true g4, of_decide_eq_true g5⟩
      · exact of_decide_eq_true g2 j (by omega)
  refine j_iconst (pc := 92) (bI true) dX1_isCover_92 (by decide) ?_
  first | refine j_st5_s (pc := 93) dX1_isCover_93 ?_ | refine j_st5_a (pc := 93) dX1_isCover_93 ?_
  refine j_iconst (pc := 95) (nI 0) dX1_isCover_95 (by decide) ?_
  first | refine j_st6_s (pc := 96) dX1_isCover_96 ?_ | refine j_st6_a (pc := 96) dX1_isCover_96 ?_
  have e0 : clB E n a b c 0 = true := decide_eq_true (fun j hj => by omega)
  have := L 2 0 (by omega)
  rw [e0] at this
  exact this
theorem Cur1.kept {w' : Wd} {st' : Nat} (hc : Cur1 n E st w) (h1 : ∀ q, q ≠ 10 → w' q = w q) (h2 : ∀ j, j ≠ 5 → j ≠ 6 → w' 10 j = w 10 j) (hst : ∀ k cv, IsB n E k cv → w 10 3 = nI k → (∀ i, i < k → w 7 i = nI (cv i)) → (∀ j, j < 2 * k → w 8 j = no (fwF cv (imN E (cv (j / 2)) (j % 2) n) k 0) ∧ w 9 j = no (soF E (cv (j / 2)) (j % 2) n 0)) → (st ≠ 0 → ∃ i, i < k ∧ w 10 6 = nI i ∧ (cv i).testBit (st - 1) = true) → (st' ≠ 0 → ∃ i, i < k ∧ w' 10 6 = nI i ∧ (cv i).testBit (st' - 1) = true)) : Cur1 n E st' w' := by
  obtain ⟨c1, c2, c3, k, cv, c4, c5, c6, c7, c8⟩ := hc
  refine ⟨fun s t hs ht => by rw [h1 1 (by decide)]; exact c1 s t hs ht, by rw [h2 2 (by decide) (by decide)]; exact c2, fun i hi => by rw [h1 4 (by decide)]; exact c3 i hi, k, cv, c4, by rw [h2 3 (by decide) (by decide)]; exact c5, fun i hi => by rw [h1 7 (by decide)]; exact c6 i hi, fun j hj => by rw [h1 8 (by decide), h1 9 (by decide)]; exact c7 j hj, hst k cv c4 c5 c6 c7 c8⟩
set_option maxHeartbeats 1000000 in
theorem m1_restart (iv : Inv1 n E st w) : Mv l D (K1 h d) yX1_restart cX1_restart 1 5 [.ref (h 0)] w (fun w' => Inv1 n E 1 w') := by
  obtain ⟨h2, h5, hE3, hE, hn⟩ := iv.1
  have hp := p2_le h5
  refine Mv.of (by decide) rfl (by simp [Value.category]) (Nat.le_of_ble_eq_true rfl) (fun X R => ?_)
  refine j_al0n (pc := 0) dX1_restart_0 ?_
  refine cl1_refresh (pc := 1) dX1_restart_1 (m1_refresh iv) (fun w2 e => ?_)
  obtain ⟨iv2, f4, cu⟩ := e
  have cu' := cu
  obtain ⟨-, -, -, k, cv, hB, e3, e4, e5, -⟩ := cu
  have hk := hB.le
  have hcv : ∀ i, i < k → cv i < 32 := fun i hi => by
    have := CS_lt (hB.mem i hi)
    omega
  refine j_al0n (pc := 4) dX1_restart_4 ?_
  refine j_iconst (pc := 5) (nI 0) dX1_restart_5 (by decide) ?_
  refine p1_state (pc := 6) dX1_restart_6 ?_
  refine j_al0n (pc := 9) dX1_restart_9 ?_
  refine j_al0n (pc := 10) dX1_restart_10 ?_
  refine j_iconst (pc := 11) (nI 1) dX1_restart_11 (by decide) ?_
  refine cl1_firstWith (pc := 12) dX1_restart_12 (m1_firstWith (cv := cv) (cnt := k) (set := 1) (by omega) (by rw [wset_k _ _ (by decide)]; exact e3) (fun i hi => ⟨by rw [wset_i _ _ (by decide)]; exact e4 i hi, hcv i hi⟩) (by decide)) (fun r w' e => ?_)
  obtain ⟨rfl, rfl⟩ := e
  obtain ⟨i, i1, i2, i3, i4⟩ := fwF_spec _ _ (hB.first (by omega))
  refine p1_inClass (pc := 15) dX1_restart_15 ?_
  refine j_vret R dX1_restart_18 ⟨iv2.1.fr (by rw [wset_i _ _ (by decide), wset_i _ _ (by decide)]) (by rw [wset_k _ _ (by decide), wset_k _ _ (by decide)]), by omega, by rw [wset_k _ _ (by decide), wset_s]; rfl, Or.inr ⟨by rw [wset_k _ _ (by decide), wset_k _ _ (by decide)]; exact f4, ?_⟩⟩
  refine ⟨fun s t hs ht => ?_, ?_, fun j hj => ?_, k, cv, hB, ?_, fun j hj => ?_, fun j hj => ?_, fun _ => ⟨i, by omega, by rw [wset_s, i3]; rfl, sub_iff.mp i4 0 (by decide)⟩⟩
  · rw [wset_i _ _ (by decide), wset_i _ _ (by decide)]
    exact cu'.1 s t hs ht
  · rw [wset_k _ _ (by decide), wset_k _ _ (by decide)]
    exact cu'.2.1
  · rw [wset_i _ _ (by decide), wset_i _ _ (by decide)]
    exact cu'.2.2.1 j hj
  · rw [wset_k _ _ (by decide), wset_k _ _ (by decide)]
    exact e3
  · rw [wset_i _ _ (by decide), wset_i _ _ (by decide)]
    exact e4 j hj
  · rw [wset_i _ _ (by decide), wset_i _ _ (by decide), wset_i _ _ (by decide), wset_i _ _ (by decide)]
    exact e5 j hj
set_option maxHeartbeats 2000000 in
theorem m1_read (iv : Inv1 n E st w) (x : Int32) : Mi l D (K1 h d) yX1_read cX1_read 4 5 (some .int) [.ref (h 0), .int x] w (fun r w' => r = r_read E st x ∧ Inv1 n E (st_read E st x) w') := by
  have iv' := iv
  obtain ⟨ok, hst, h5s, hcur⟩ := iv
  obtain ⟨h2, h5, hE3, hE, hn⟩ := ok
  have hp := p2_le h5
  refine Mi.of (by decide) rfl (by simp [Value.category]) (Nat.le_of_ble_eq_true rfl) (fun X R => ?_)
  refine j_il1n (pc := 0) dX1_read_0 ?_
  refine cl1_isInput (pc := 1) dX1_read_1 (m1_isInput x) (fun r w' e => ?_)
  obtain ⟨rfl, rfl⟩ := e
  refine j_if_neB (pc := 4) 9 dX1_read_4 (by decide) (fun c => ?_) (fun c => ?_)
  rotate_left
  · refine j_iconst (pc := 7) (-1) dX1_read_7 (by decide) ?_
    exact j_iret R dX1_read_8 (⟨by rw [r_read, if_pos c], by rw [st_read, if_pos c]; exact iv'⟩)
  have hr0 : r_read E st x = if st = 0 then -3 else if ot E (st - 1) (cl x) = 0 then -2 else no (ot E (st - 1) (cl x)) := by rw [r_read, if_neg (by rw [c]; decide)]
  have hs0 : st_read E st x = if st = 0 then st else nx E (st - 1) (cl x) := by rw [st_read, if_neg (by rw [c]; decide)]
  obtain ⟨a, -, ha, rfl⟩ := inR_nI c (by omega)
  rw [cl_nI (by omega)] at hr0 hs0
  refine j_al0n (pc := 9) dX1_read_9 ?_
  refine g1_state (pc := 10) dX1_read_10 (by first | assumption | rfl) ?_
  refine j_iconst (pc := 13) (-1) dX1_read_13 (by decide) ?_
  refine j_icmp_ne (pc := 14) 20 dX1_read_14 (by decide) (fun c2 => ?_) (fun c2 => ?_)
  rotate_left
  · rw [no_m1 (by omega)] at c2
    refine j_bipush (pc := 17) (-3) dX1_read_17 (by decide) ?_
    exact j_iret R dX1_read_19 (⟨by rw [hr0, if_pos c2], by rw [hs0, if_pos c2]; exact iv'⟩)
  rw [no_m1 (by omega)] at c2
  rw [if_neg c2] at hr0 hs0
  obtain ⟨s, rfl⟩ : ∃ s, st = s + 1 := ⟨st - 1, by omega⟩
  rw [show s + 1 - 1 = s from rfl] at hr0 hs0
  refine j_al0n (pc := 20) dX1_read_20 ?_
  refine cl1_refresh (pc := 21) dX1_read_21 (m1_refresh iv') (fun w2 e => ?_)
  obtain ⟨iv2, f4, cu⟩ := e
  have cu' := cu
  obtain ⟨-, -, -, k, cv, hB, e3, e4, e5, e6⟩ := cu
  have hk := hB.le
  obtain ⟨i, i1, i2, i3⟩ := e6 (by omega)
  have i3 : (cv i).testBit s = true := i3
  have ok2 := iv2.1
  have g5 : w2 10 5 = nI s := iv2.2.2.1
  have ho := ot_lt E s a
  have hnx := nx_le hE3 s a
  have hidx : (2 * i + a) / 2 = i ∧ (2 * i + a) % 2 = a := by omega
  have h9 : w2 9 (2 * i + a) = no (soF E (cv i) a n 0) := by
    have := (e5 (2 * i + a) (by omega)).2
    rw [hidx.1, hidx.2] at this
    exact this
  have h8 : w2 8 (2 * i + a) = no (fwF cv (imN E (cv i) a n) k 0) := by
    have := (e5 (2 * i + a) (by omega)).1
    rw [hidx.1, hidx.2] at this
    exact this
  have hfw : fwF cv (imN E (cv i) a n) k 0 ≠ 0 := by
    have := hB.clo (2 * i + a) (by omega)
    rw [hidx.1, hidx.2] at this
    exact this
  obtain ⟨j, j1, j2, j3, j4⟩ := fwF_spec _ _ hfw
  have h42 : J X (K1 h d) cX1_read 4 5 42 [.ref (h 0), .int (nI a)] [.int (bI (decide (ot E s a ≠ 0)))] w2 := by
    first | refine j_st2n_s (pc := 42) dX1_read_42 ?_ | refine j_st2n_a (pc := 42) dX1_read_42 ?_
    refine j_al0n (pc := 43) dX1_read_43 ?_
    refine g1_classOut (pc := 44) dX1_read_44 ?_
    refine j_iconst (pc := 47) (nI 2) dX1_read_47 (by decide) ?_
    refine j_al0n (pc := 48) dX1_read_48 ?_
    refine g1_inClass (pc := 49) dX1_read_49 (i2) ?_
    first | with_reducible refine j_imulN (pc := 52) dX1_read_52 ?_ | refine j_imul (pc := 52) dX1_read_52 ?_
    refine j_il1n (pc := 53) dX1_read_53 ?_
    first | with_reducible refine j_iaddN (pc := 54) dX1_read_54 ?_ | refine j_iadd (pc := 54) dX1_read_54 ?_
    refine al1_classOut (pc := 55) dX1_read_55 (by omega) (h9) ?_
    first | refine j_st3n_s (pc := 56) dX1_read_56 ?_ | refine j_st3n_a (pc := 56) dX1_read_56 ?_
    refine j_al0n (pc := 57) dX1_read_57 ?_
    refine j_al0n (pc := 58) dX1_read_58 ?_
    refine j_al0n (pc := 59) dX1_read_59 ?_
    refine g1_state (pc := 60) dX1_read_60 (by first | assumption | rfl) ?_
    refine j_il1n (pc := 63) dX1_read_63 ?_
    refine cl1_next (pc := 64) dX1_read_64 (m1_next ok2 (by omega) ha) (fun r w' e => ?_)
    obtain ⟨rfl, rfl⟩ := e
    have fin : ∀ w3, Inv1 n E (nx E s a) w3 → J X (K1 h d) cX1_read 4 5 95 [.ref (h 0), .int (nI a), .int (bI (decide (ot E s a ≠ 0))), .int (no (soF E (cv i) a n 0))] [] w3 := by
      intro w3 iv3
      refine j_il2n (pc := 95) dX1_read_95 ?_
      refine j_if_eqB (pc := 96) 103 dX1_read_96 (by decide) (fun c3 => ?_) (fun c3 => ?_)
      · have c3 := of_decide_eq_false c3
        refine j_bipush (pc := 103) (-2) dX1_read_103 (by decide) ?_
        exact j_iret R dX1_read_105 (⟨by rw [hr0, if_pos (by omega)], by rw [hs0]; exact iv3⟩)
      · have c3 := of_decide_eq_true c3
        refine j_il3n (pc := 99) dX1_read_99 ?_
        refine j_goto (pc := 100) 105 dX1_read_100 (by decide) ?_
        exact j_iret R dX1_read_105 (⟨by rw [hr0, if_neg c3, out_own (CS_hold (hB.mem i i1)) (by omega) i3 ha c3], by rw [hs0]; exact iv3⟩)
    refine p1_state (pc := 67) dX1_read_67 ?_
    refine j_al0n (pc := 70) dX1_read_70 ?_
    refine g1_state (pc := 71) dX1_read_71 (wset_s _ _ _ _) ?_
    refine j_iconst (pc := 74) (-1) dX1_read_74 (by decide) ?_
    refine j_icmp_eq (pc := 75) 95 dX1_read_75 (by decide) (fun c3 => ?_) (fun c3 => ?_)
    · rw [no_m1 (by omega)] at c3
      refine fin _ ⟨ok2.fr (by rw [wset_i _ _ (by decide)]) (by rw [wset_k _ _ (by decide)]), hnx, wset_s _ _ _ _, Or.inr ⟨by rw [wset_k _ _ (by decide)]; exact f4, ?_⟩⟩
      exact cu'.kept (fun q hq => by rw [wset_i _ _ hq]) (fun j h1 _ => by rw [wset_k _ _ h1]) (fun _ _ _ _ _ _ _ q => absurd c3 q)
    · rw [no_m1 (by omega)] at c3
      refine j_al0n (pc := 78) dX1_read_78 ?_
      refine j_al0n (pc := 79) dX1_read_79 ?_
      refine g1_nextClass (pc := 80) dX1_read_80 ?_
      refine j_iconst (pc := 83) (nI 2) dX1_read_83 (by decide) ?_
      refine j_al0n (pc := 84) dX1_read_84 ?_
      refine g1_inClass (pc := 85) dX1_read_85 ((wset_k _ _ (by decide)).trans i2) ?_
      first | with_reducible refine j_imulN (pc := 88) dX1_read_88 ?_ | refine j_imul (pc := 88) dX1_read_88 ?_
      refine j_il1n (pc := 89) dX1_read_89 ?_
      first | with_reducible refine j_iaddN (pc := 90) dX1_read_90 ?_ | refine j_iadd (pc := 90) dX1_read_90 ?_
      refine al1_nextClass (pc := 91) dX1_read_91 (by omega) ((congrFun (wset_i _ _ (by decide)) _).trans h8) ?_
      refine p1_inClass (pc := 92) dX1_read_92 ?_
      refine fin _ ⟨ok2.fr (by rw [wset_i _ _ (by decide), wset_i _ _ (by decide)]) (by rw [wset_k _ _ (by decide), wset_k _ _ (by decide)]), hnx, by rw [wset_k _ _ (by decide)]; exact wset_s _ _ _ _, Or.inr ⟨by rw [wset_k _ _ (by decide), wset_k _ _ (by decide)]; exact f4, ?_⟩⟩
      refine ⟨fun s t hs ht => ?_, ?_, fun j hj => ?_, k, cv, hB, ?_, fun j hj => ?_, fun j hj => ?_, fun _ => ⟨j, by omega, by rw [wset_s, j3]; rfl, sub_iff.mp j4 _ ?_⟩⟩
      · rw [wset_i _ _ (by decide), wset_i _ _ (by decide)]
        exact cu'.1 s t hs ht
      · rw [wset_k _ _ (by decide), wset_k _ _ (by decide)]
        exact cu'.2.1
      · rw [wset_i _ _ (by decide), wset_i _ _ (by decide)]
        exact cu'.2.2.1 j hj
      · rw [wset_k _ _ (by decide), wset_k _ _ (by decide)]
        exact e3
      · rw [wset_i _ _ (by decide), wset_i _ _ (by decide)]
        exact e4 j hj
      · rw [wset_i _ _ (by decide), wset_i _ _ (by decide), wset_i _ _ (by decide), wset_i _ _ (by decide)]
        exact e5 j hj
      · exact (imN_bit (n := n) n).mpr ⟨s, by omega, i3, by omega⟩
  refine j_al0n (pc := 24) dX1_read_24 ?_
  refine j_al0n (pc := 25) dX1_read_25 ?_
  refine g1_state (pc := 26) dX1_read_26 (by first | assumption | rfl) ?_
  refine j_il1n (pc := 29) dX1_read_29 ?_
  refine cl1_output (pc := 30) dX1_read_30 (m1_output ok2 (by omega) ha) (fun r w' e => ?_)
  obtain ⟨rfl, rfl⟩ := e
  refine j_iconst (pc := 33) (-1) dX1_read_33 (by decide) ?_
  refine j_icmp_eq (pc := 34) 41 dX1_read_34 (by decide) (fun c3 => ?_) (fun c3 => ?_)
  · rw [no_m1 (by omega)] at c3
    refine j_iconst (pc := 41) (bI false) dX1_read_41 (by decide) ?_
    rw [← decide_eq_false (p := ot E s a ≠ 0) (fun q => q c3)]
    exact h42
  · rw [no_m1 (by omega)] at c3
    refine j_iconst (pc := 37) (bI true) dX1_read_37 (by decide) ?_
    refine j_goto (pc := 38) 42 dX1_read_38 (by decide) ?_
    rw [← decide_eq_true (p := ot E s a ≠ 0) c3]
    exact h42
end S1
end
section
/-! pure: words that split a pair, the least one, and no level is above the number of pairs -/
set_option maxRecDepth 100000
def spw (E : Nat → Nat) : Nat → Nat → Nat → Nat → Bool
  | 0, _, _, _ => false
  | 1, s, t, v => dif E s t (v % 2)
  | L + 2, s, t, v => stp E (fun p q => spw E (L + 1) p q v) s t (v / 2 ^ (L + 1) % 2)
def fwd (E : Nat → Nat) (L s t : Nat) : Nat → Nat → Nat
  | 0, _ => 0
  | m + 1, v => if spw E L s t v = true then v + 1 else fwd E L s t m (v + 1)
def shF (E : Nat → Nat) (s t : Nat) : Nat → Nat → Nat
  | 0, _ => 0
  | m + 1, L => if fwd E L s t (2 ^ L) 0 ≠ 0 then L else shF E s t m (L + 1)
theorem spw_mod (E : Nat → Nat) : ∀ L s t v v', v % 2 ^ L = v' % 2 ^ L → spw E L s t v = spw E L s t v' := by
  intro L
  induction L with
  | zero => intro s t v v' _; rfl
  | succ L ih =>
    intro s t v v' h
    match L, ih, h with
    | 0, _, h => rw [spw, spw]; rw [show (2 : Nat) ^ (0 + 1) = 2 from rfl] at h; rw [h]
    | L + 1, ih, h =>
      have e1 : v / 2 ^ (L + 1) % 2 = v' / 2 ^ (L + 1) % 2 := by
        have a1 := Nat.mod_pow_succ (x := v) (b := 2) (k := L + 1)
        have a2 := Nat.mod_pow_succ (x := v') (b := 2) (k := L + 1)
        have a3 : v % 2 ^ (L + 1) < 2 ^ (L + 1) := Nat.mod_lt _ (Nat.two_pow_pos _)
        have a4 : v' % 2 ^ (L + 1) < 2 ^ (L + 1) := Nat.mod_lt _ (Nat.two_pow_pos _)
        rw [h, a2] at a1
        have b1 : v / 2 ^ (L + 1) % 2 < 2 := Nat.mod_lt _ (by decide)
        have b2 : v' / 2 ^ (L + 1) % 2 < 2 := Nat.mod_lt _ (by decide)
        rcases (show v / 2 ^ (L + 1) % 2 = 0 ∨ v / 2 ^ (L + 1) % 2 = 1 by omega) with q1 | q1 <;> rcases (show v' / 2 ^ (L + 1) % 2 = 0 ∨ v' / 2 ^ (L + 1) % 2 = 1 by omega) with q2 | q2 <;> rw [q1, q2] at a1 ⊢ <;> omega
      have e2 : v % 2 ^ (L + 1) = v' % 2 ^ (L + 1) := by
        have d : (2 : Nat) ^ (L + 1) ∣ 2 ^ (L + 1 + 1) := Nat.pow_dvd_pow 2 (by omega)
        rw [← Nat.mod_mod_of_dvd v d, ← Nat.mod_mod_of_dvd v' d, h]
      rw [spw, spw, e1]
      apply stp_congr
      intro _ _
      exact ih _ _ _ _ e2
theorem sp_stp {E : Nat → Nat} {L s t a : Nat} : spa E (L + 2) s t a = stp E (sp E (L + 1)) s t a := rfl
theorem stp_true {E : Nat → Nat} {f : Nat → Nat → Bool} {s t a : Nat} : stp E f s t a = true ↔ nx E s a ≠ 0 ∧ nx E t a ≠ 0 ∧ f (nx E s a - 1) (nx E t a - 1) = true := by
  unfold stp
  simp [and_assoc]
/-- a word that splits gives the length's word -/
theorem sp_of_spw (E : Nat → Nat) : ∀ L s t v, spw E L s t v = true → sp E L s t = true := by
  intro L
  induction L with
  | zero => intro s t v h; exact absurd h (by simp [spw])
  | succ L ih =>
    intro s t v h
    match L, ih, h with
    | 0, _, h =>
      rw [spw] at h
      rw [sp]
      have : v % 2 < 2 := Nat.mod_lt _ (by decide)
      rcases (show v % 2 = 0 ∨ v % 2 = 1 by omega) with q | q <;> rw [q] at h <;> simp [h]
    | L + 1, ih, h =>
      rw [spw, stp_true] at h
      refine sp_step (a := v / 2 ^ (L + 1) % 2) (by omega) (Nat.mod_lt _ (by decide)) (stp_true.mpr ⟨h.1, h.2.1, ih _ _ _ h.2.2⟩)
theorem gw_least (E : Nat → Nat) : ∀ L s t, sp E (L + 1) s t = true → gw E (L + 1) s t < 2 ^ (L + 1) ∧ spw E (L + 1) s t (gw E (L + 1) s t) = true ∧ ∀ v, v < gw E (L + 1) s t → spw E (L + 1) s t v = false := by
  intro L
  induction L with
  | zero =>
    intro s t h
    rw [sp_spa] at h
    rw [gw]
    by_cases h0 : spa E (0 + 1) s t 0 = true
    · rw [if_pos h0]
      have e : gw E 0 (nx E s 0 - 1) (nx E t 0 - 1) = 0 := rfl
      rw [e]
      refine ⟨by decide, h0, fun v hv => by omega⟩
    · rw [if_neg h0]
      have e : 2 ^ 0 + gw E 0 (nx E s 1 - 1) (nx E t 1 - 1) = 1 := rfl
      rw [e]
      have h0' : spa E (0 + 1) s t 0 = false := by simpa using h0
      rw [h0'] at h
      have h1' : dif E s t 1 = true := by simpa [spa] using h
      refine ⟨by decide, h1', fun v hv => ?_⟩
      obtain rfl : v = 0 := by omega
      exact h0'
  | succ L ih =>
    intro s t h
    rw [sp_spa] at h
    rw [gw]
    have hP := Nat.two_pow_pos (L + 1)
    have hP2 : 2 ^ (L + 1 + 1) = 2 ^ (L + 1) + 2 ^ (L + 1) := by rw [Nat.pow_succ]; omega
    have low : ∀ v, v < 2 ^ (L + 1) → v / 2 ^ (L + 1) % 2 = 0 := fun v hv => by rw [Nat.div_eq_of_lt hv]
    by_cases h0 : spa E (L + 1 + 1) s t 0 = true
    · rw [if_pos h0]
      rw [sp_stp, stp_true] at h0
      obtain ⟨i1, i2, i3⟩ := ih _ _ h0.2.2
      refine ⟨by omega, ?_, fun v hv => ?_⟩
      · rw [spw, low _ i1, stp_true]
        exact ⟨h0.1, h0.2.1, i2⟩
      · rw [spw, low _ (by omega)]
        cases hb : stp E (fun p q => spw E (L + 1) p q v) s t 0 with
        | false => rfl
        | true =>
          rw [stp_true] at hb
          have := i3 v hv
          rw [this] at hb
          exact absurd hb.2.2 (by decide)
    · rw [if_neg h0]
      have h0' : spa E (L + 1 + 1) s t 0 = false := by simpa using h0
      rw [h0', Bool.false_or, sp_stp, stp_true] at h
      obtain ⟨i1, i2, i3⟩ := ih _ _ h.2.2
      have hi : ∀ x, x < 2 ^ (L + 1) → (2 ^ (L + 1) + x) / 2 ^ (L + 1) % 2 = 1 := fun x hx => by
        rw [Nat.add_div_left _ hP, Nat.div_eq_of_lt hx]
      have hm : ∀ x, (2 ^ (L + 1) + x) % 2 ^ (L + 1) = x % 2 ^ (L + 1) := fun x => Nat.add_mod_left _ _
      refine ⟨by omega, ?_, fun v hv => ?_⟩
      · rw [spw, hi _ i1, stp_true]
        exact ⟨h.1, h.2.1, by rw [spw_mod E (L + 1) _ _ _ _ (hm _)]; exact i2⟩
      · rcases Nat.lt_or_ge v (2 ^ (L + 1)) with q | q
        · rw [spw, low _ q]
          cases hb : stp E (fun p q => spw E (L + 1) p q v) s t 0 with
          | false => rfl
          | true =>
            rw [stp_true] at hb
            have : spa E (L + 1 + 1) s t 0 = true := by
              rw [sp_stp, stp_true]
              exact ⟨hb.1, hb.2.1, sp_of_spw E _ _ _ _ hb.2.2⟩
            rw [h0'] at this
            exact absurd this (by decide)
        · obtain ⟨x, rfl⟩ : ∃ x, v = 2 ^ (L + 1) + x := ⟨v - 2 ^ (L + 1), by omega⟩
          rw [spw, hi _ (by omega)]
          cases hb : stp E (fun p q => spw E (L + 1) p q (2 ^ (L + 1) + x)) s t 1 with
          | false => rfl
          | true =>
            rw [stp_true] at hb
            have h3 := i3 x (by omega)
            rw [← spw_mod E (L + 1) _ _ _ _ (hm x)] at h3
            rw [h3] at hb
            exact absurd hb.2.2 (by decide)
theorem fwd_at {E : Nat → Nat} {L s t g : Nat} : ∀ m v, v ≤ g → g < v + m → spw E L s t g = true → (∀ x, x < g → spw E L s t x = false) → fwd E L s t m v = g + 1 := by
  intro m
  induction m with
  | zero => intro v h1 h2; omega
  | succ m ih =>
    intro v h1 h2 h3 h4
    rw [fwd]
    by_cases e : v = g
    · rw [e, if_pos h3]
    · rw [if_neg (by rw [h4 v (by omega)]; decide)]
      exact ih (v + 1) (by omega) (by omega) h3 h4
theorem fwd_none {E : Nat → Nat} {L s t : Nat} : ∀ m v, (∀ x, spw E L s t x = false) → fwd E L s t m v = 0 := by
  intro m
  induction m with
  | zero => intro v _; rfl
  | succ m ih =>
    intro v h
    rw [fwd, if_neg (by rw [h v]; decide)]
    exact ih (v + 1) h
theorem fwd_eq {E : Nat → Nat} {L s t : Nat} (hL : 1 ≤ L) : fwd E L s t (2 ^ L) 0 = if sp E L s t = true then gw E L s t + 1 else 0 := by
  obtain ⟨L, rfl⟩ : ∃ m, L = m + 1 := ⟨L - 1, by omega⟩
  by_cases h : sp E (L + 1) s t = true
  · rw [if_pos h]
    obtain ⟨h1, h2, h3⟩ := gw_least E L s t h
    exact fwd_at _ _ (by omega) (by omega) h2 h3
  · rw [if_neg h]
    refine fwd_none _ _ (fun x => ?_)
    cases hb : spw E (L + 1) s t x with
    | false => rfl
    | true => exact absurd (sp_of_spw E _ _ _ _ hb) h
theorem dif_symm (E : Nat → Nat) (s t a : Nat) : dif E s t a = dif E t s a := by
  unfold dif
  rw [Bool.and_comm (ot E s a != 0) (ot E t a != 0), bne_comm (a := ot E s a) (b := ot E t a)]
theorem sp_symm (E : Nat → Nat) : ∀ L s t, sp E L s t = sp E L t s := by
  intro L
  induction L with
  | zero => intro s t; rfl
  | succ L ih =>
    intro s t
    match L, ih with
    | 0, _ => rw [sp, sp, dif_symm E s t, dif_symm E s t]
    | L + 1, ih =>
      have key : ∀ a, stp E (sp E (L + 1)) s t a = stp E (sp E (L + 1)) t s a := by
        intro a
        unfold stp
        rw [ih (nx E s a - 1) (nx E t a - 1), Bool.and_comm (nx E s a != 0) (nx E t a != 0)]
      rw [sp, sp, key, key]
theorem lvl_symm (E : Nat → Nat) : ∀ k s t, lvl E k s t = lvl E k t s := by
  intro k
  induction k with
  | zero => intro s t; rfl
  | succ k ih =>
    intro s t
    rw [lvl, lvl, ih s t, sp_symm E (k + 1) s t]
/-- every level below one that is reached is reached -/
theorem lvl_down {n : Nat} {E : Nat → Nat} (hE : ∀ k, E k < 3 * (n + 1)) : ∀ L s t, L + 1 ≤ 25 → s < n → t < n → lvl E 25 s t = L + 1 → ∀ j, 1 ≤ j → j ≤ L + 1 → ∃ p q, p < n ∧ q < n ∧ lvl E 25 p q = j := by
  intro L
  induction L with
  | zero =>
    intro s t _ hs ht h j h1 h2
    exact ⟨s, t, hs, ht, by omega⟩
  | succ L ih =>
    intro s t hL hs ht h j h1 h2
    by_cases e : j = L + 1 + 1
    · exact ⟨s, t, hs, ht, by omega⟩
    · have key : ∀ a, a < 2 → spa E (L + 1 + 1) s t a = true → ∃ p q, p < n ∧ q < n ∧ lvl E 25 p q = j := by
        intro a ha hsp
        obtain ⟨k1, k2, k3⟩ := spa_next (by omega) hL ha h hsp
        have b1 := nx_le hE s a
        have b2 := nx_le hE t a
        exact ih _ _ (by omega) (by omega) (by omega) k3 j h1 (by omega)
      cases hb : spa E (L + 1 + 1) s t 0 with
      | true => exact key 0 (by omega) hb
      | false => exact key 1 (by omega) (spa_one (by omega) hL h hb)
theorem hole : ∀ (L : Nat) (l : List Nat), (∀ j, 1 ≤ j → j ≤ L → j ∈ l) → L ≤ l.length := by
  intro L
  induction L with
  | zero => intro l _; exact Nat.zero_le _
  | succ L ih =>
    intro l h
    have hm := h (L + 1) (by omega) (Nat.le_refl _)
    have h1 := ih (l.erase (L + 1)) (fun j j1 j2 => (List.mem_erase_of_ne (by omega)).mpr (h j j1 (by omega)))
    have h2 := List.length_erase_of_mem hm
    have h3 := List.length_pos_of_mem hm
    omega
def prs (n : Nat) : List (Nat × Nat) := (List.range n).flatMap (fun t => (List.range t).map (fun s => (s, t)))
theorem prs_mem {n s t : Nat} (hs : s < t) (ht : t < n) : (s, t) ∈ prs n := List.mem_flatMap.mpr ⟨t, List.mem_range.mpr ht, List.mem_map.mpr ⟨s, List.mem_range.mpr hs, rfl⟩⟩
theorem prs_len {n : Nat} (h2 : 2 ≤ n) (h5 : n ≤ 5) : (prs n).length = n * (n - 1) / 2 := by
  rcases (show n = 2 ∨ n = 3 ∨ n = 4 ∨ n = 5 by omega) with rfl | rfl | rfl | rfl <;> decide
theorem lvl_pairs {n : Nat} {E : Nat → Nat} (hE : ∀ k, E k < 3 * (n + 1)) (h2 : 2 ≤ n) (h5 : n ≤ 5) {s t : Nat} (hs : s < n) (ht : t < n) (h : lvl E 25 s t ≠ 1000) : lvl E 25 s t ≤ n * (n - 1) / 2 := by
  rcases lvl_or E 25 s t with q | q
  · exact absurd q h
  · obtain ⟨L, hL⟩ : ∃ L, lvl E 25 s t = L + 1 := ⟨lvl E 25 s t - 1, by omega⟩
    rw [← prs_len h2 h5, ← List.length_map (f := fun x => lvl E 25 x.1 x.2)]
    apply hole
    intro j h1 hj
    obtain ⟨p, q, hp, hq, e⟩ := lvl_down hE L s t (by omega) hs ht hL j h1 (by omega)
    rcases Nat.lt_trichotomy p q with r | r | r
    · exact List.mem_map.mpr ⟨(p, q), prs_mem r hq, e⟩
    · rw [r, lvl_refl] at e
      omega
    · exact List.mem_map.mpr ⟨(q, p), prs_mem r hp, by rw [← e]; exact lvl_symm E 25 q p⟩
theorem shF_at {E : Nat → Nat} {s t g : Nat} : ∀ m L, 1 ≤ L → L ≤ g → g < L + m → sp E g s t = true → (∀ x, x < g → sp E x s t = false) → shF E s t m L = g := by
  intro m
  induction m with
  | zero => intro L h0 h1 h2; omega
  | succ m ih =>
    intro L h0 h1 h2 h3 h4
    by_cases e : L = g
    · have e0 : fwd E L s t (2 ^ L) 0 ≠ 0 := by
        rw [fwd_eq h0, e, if_pos h3]
        omega
      rw [shF, if_pos e0, e]
    · have e0 : fwd E L s t (2 ^ L) 0 = 0 := by
        rw [fwd_eq h0, if_neg (by rw [h4 L (by omega)]; decide)]
      rw [shF, if_neg (fun q => q e0)]
      exact ih (L + 1) (by omega) (by omega) (by omega) h3 h4
theorem shF_none {E : Nat → Nat} {s t : Nat} : ∀ m L, 1 ≤ L → (∀ x, x < L + m → sp E x s t = false) → shF E s t m L = 0 := by
  intro m
  induction m with
  | zero => intro L _ _; rfl
  | succ m ih =>
    intro L h0 h
    have e0 : fwd E L s t (2 ^ L) 0 = 0 := by
      rw [fwd_eq h0, if_neg (by rw [h L (by omega)]; decide)]
    rw [shF, if_neg (fun q => q e0)]
    exact ih (L + 1) (by omega) (fun x hx => h x (by omega))
theorem nn1_le {n : Nat} (h5 : n ≤ 5) : n * (n - 1) / 2 ≤ 10 := by
  have : n * (n - 1) ≤ 5 * 4 := Nat.mul_le_mul h5 (by omega)
  omega
/-- the reference's search for the length finds the level -/
theorem shF_lvl {n : Nat} {E : Nat → Nat} (hE : ∀ k, E k < 3 * (n + 1)) (h2 : 2 ≤ n) (h5 : n ≤ 5) {s t : Nat} (hs : s < n) (ht : t < n) : shF E s t (n * (n - 1) / 2) 1 = if lvl E 25 s t = 1000 then 0 else lvl E 25 s t := by
  have h10 := nn1_le h5
  by_cases h : lvl E 25 s t = 1000
  · rw [if_pos h]
    have hf := (lvl_far E (by omega)).mp h
    exact shF_none _ _ (by omega) (fun x hx => hf x (by omega))
  · rw [if_neg h]
    have hp := lvl_pairs hE h2 h5 hs ht h
    rcases lvl_or E 25 s t with q | q
    · exact absurd q h
    · have := (lvl_eq E (k := 25) (j := lvl E 25 s t) (by omega) (by omega) (by omega)).mp rfl
      exact shF_at _ _ (by omega) (by omega) (by omega) this.1 this.2
end
section
/-! FsmReducerModel (X2): the small methods, words, the table, sets -/
set_option maxRecDepth 100000
def Fit (n : Nat) (E : Nat → Nat) (w : Wd) : Prop := ∀ s t, s < n → t < n → w 1 (8 * s + t) = bI (decide (lvl E 25 s t = 1000))
section S2
variable {l : Launch} {D : va_G} {h : Nat → Nat} {d : Nat → ClassId} {w : Wd} {n : Nat} {E : Nat → Nat}
set_option maxHeartbeats 1000000 in
theorem m2_badState (ok : Ok1 n E w) (x : Int32) : Mi l D (K2 h d) yX2_badState cX2_badState 2 0 (some .boolean) [.ref (h 0), .int x] w (fun r w' => w = w' ∧ r = bI (!inR 0 n x)) := by
  obtain ⟨h2, h5, hE3, hE, hn⟩ := ok
  refine Mi.of (by decide) rfl (by simp [Value.category]) (Nat.le_of_ble_eq_true rfl) (fun X R => ?_)
  refine j_il1n (pc := 0) dX2_badState_0 ?_
  refine j_if_lt (pc := 1) 17 dX2_badState_1 (by decide) (fun c => ?_) (fun c => ?_)
  · rw [i_lt0] at c
    refine j_iconst (pc := 17) (nI 1) dX2_badState_17 (by decide) ?_
    refine j_goto (pc := 18) 22 dX2_badState_18 (by decide) ?_
    exact j_zret R dX2_badState_22 true (by first | rfl | decide) (⟨rfl, by rw [inR_f (by omega)]; rfl⟩)
  rw [i_lt0] at c
  refine j_il1n (pc := 4) dX2_badState_4 ?_
  refine j_al0n (pc := 5) dX2_badState_5 ?_
  refine g2_n (pc := 6) dX2_badState_6 (by first | assumption | rfl) ?_
  refine j_icmp_ge (pc := 9) 17 dX2_badState_9 (by decide) (fun c2 => ?_) (fun c2 => ?_)
  · rw [i_len (by omega)] at c2
    refine j_iconst (pc := 17) (nI 1) dX2_badState_17 (by decide) ?_
    refine j_goto (pc := 18) 22 dX2_badState_18 (by decide) ?_
    exact j_zret R dX2_badState_22 true (by first | rfl | decide) (⟨rfl, by rw [inR_f (by omega)]; rfl⟩)
  rw [i_len (by omega)] at c2
  refine j_il1n (pc := 12) dX2_badState_12 ?_
  refine j_iconst (pc := 13) (nI 5) dX2_badState_13 (by decide) ?_
  refine j_icmp_lt (pc := 14) 21 dX2_badState_14 (by decide) (fun c3 => ?_) (fun c3 => ?_)
  · rw [i_ltn (by omega)] at c3
    refine j_iconst (pc := 21) (nI 0) dX2_badState_21 (by decide) ?_
    exact j_zret R dX2_badState_22 false (by first | rfl | decide) (⟨rfl, by rw [inR_t (by omega) (by omega)]; rfl⟩)
  · rw [i_ltn (by omega)] at c3
    omega
set_option maxHeartbeats 1000000 in
theorem m2_badInput (x : Int32) : Mi l D (K2 h d) yX2_badInput cX2_badInput 2 0 (some .boolean) [.ref (h 0), .int x] w (fun r w' => w = w' ∧ r = bI (!inR 0 2 x)) := by
  refine Mi.of (by decide) rfl (by simp [Value.category]) (Nat.le_of_ble_eq_true rfl) (fun X R => ?_)
  refine j_il1n (pc := 0) dX2_badInput_0 ?_
  refine j_if_lt (pc := 1) 9 dX2_badInput_1 (by decide) (fun c => ?_) (fun c => ?_)
  · rw [i_lt0] at c
    refine j_iconst (pc := 9) (nI 1) dX2_badInput_9 (by decide) ?_
    refine j_goto (pc := 10) 14 dX2_badInput_10 (by decide) ?_
    exact j_zret R dX2_badInput_14 true (by first | rfl | decide) (⟨rfl, by rw [inR_f (by omega)]; rfl⟩)
  rw [i_lt0] at c
  refine j_il1n (pc := 4) dX2_badInput_4 ?_
  refine j_iconst (pc := 5) (nI 1) dX2_badInput_5 (by decide) ?_
  refine j_icmp_le (pc := 6) 13 dX2_badInput_6 (by decide) (fun c2 => ?_) (fun c2 => ?_)
  · rw [Int32.le_iff_toInt_le, nI_toInt (by decide)] at c2
    refine j_iconst (pc := 13) (nI 0) dX2_badInput_13 (by decide) ?_
    exact j_zret R dX2_badInput_14 false (by first | rfl | decide) (⟨rfl, by rw [inR_t (by omega) (by omega)]; rfl⟩)
  · rw [Int32.le_iff_toInt_le, nI_toInt (by decide)] at c2
    refine j_iconst (pc := 9) (nI 1) dX2_badInput_9 (by decide) ?_
    refine j_goto (pc := 10) 14 dX2_badInput_10 (by decide) ?_
    exact j_zret R dX2_badInput_14 true (by first | rfl | decide) (⟨rfl, by rw [inR_f (by omega)]; rfl⟩)
set_option maxHeartbeats 1000000 in
theorem m2_badSet (ok : Ok1 n E w) (x : Int32) : Mi l D (K2 h d) yX2_badSet cX2_badSet 2 0 (some .boolean) [.ref (h 0), .int x] w (fun r w' => w = w' ∧ r = bI (!inR 1 (2 ^ n) x)) := by
  obtain ⟨h2, h5, hE3, hE, hn⟩ := ok
  have hp := p2_le h5
  refine Mi.of (by decide) rfl (by simp [Value.category]) (Nat.le_of_ble_eq_true rfl) (fun X R => ?_)
  refine j_il1n (pc := 0) dX2_badSet_0 ?_
  refine j_iconst (pc := 1) (nI 1) dX2_badSet_1 (by decide) ?_
  refine j_icmp_lt (pc := 2) 15 dX2_badSet_2 (by decide) (fun c => ?_) (fun c => ?_)
  · rw [i_ltn (by omega)] at c
    refine j_iconst (pc := 15) (nI 1) dX2_badSet_15 (by decide) ?_
    refine j_goto (pc := 16) 20 dX2_badSet_16 (by decide) ?_
    exact j_zret R dX2_badSet_20 true (by first | rfl | decide) (⟨rfl, by rw [inR_f (by omega)]; rfl⟩)
  rw [i_ltn (by omega)] at c
  refine j_il1n (pc := 5) dX2_badSet_5 ?_
  refine j_iconst (pc := 6) (nI 1) dX2_badSet_6 (by decide) ?_
  refine j_al0n (pc := 7) dX2_badSet_7 ?_
  refine g2_n (pc := 8) dX2_badSet_8 (by first | assumption | rfl) ?_
  refine j_ishl1 (pc := 11) dX2_badSet_11 (by omega) ?_
  refine j_icmp_lt (pc := 12) 19 dX2_badSet_12 (by decide) (fun c2 => ?_) (fun c2 => ?_)
  · rw [i_ltn (by omega)] at c2
    refine j_iconst (pc := 19) (nI 0) dX2_badSet_19 (by decide) ?_
    exact j_zret R dX2_badSet_20 false (by first | rfl | decide) (⟨rfl, by rw [inR_t (by omega) (by omega)]; rfl⟩)
  · rw [i_ltn (by omega)] at c2
    refine j_iconst (pc := 15) (nI 1) dX2_badSet_15 (by decide) ?_
    refine j_goto (pc := 16) 20 dX2_badSet_16 (by decide) ?_
    exact j_zret R dX2_badSet_20 true (by first | rfl | decide) (⟨rfl, by rw [inR_f (by omega)]; rfl⟩)
set_option maxHeartbeats 1000000 in
theorem m2_outside (ok : Ok1 n E w) (x : Int32) : Mi l D (K2 h d) yX2_outside cX2_outside 2 0 (some .boolean) [.ref (h 0), .int x] w (fun r w' => w = w' ∧ r = bI (!inR 0 (2 ^ n) x)) := by
  obtain ⟨h2, h5, hE3, hE, hn⟩ := ok
  have hp := p2_le h5
  have hp4 := p2_ge h2
  refine Mi.of (by decide) rfl (by simp [Value.category]) (Nat.le_of_ble_eq_true rfl) (fun X R => ?_)
  refine j_il1n (pc := 0) dX2_outside_0 ?_
  refine j_if_lt (pc := 1) 16 dX2_outside_1 (by decide) (fun c => ?_) (fun c => ?_)
  · rw [i_lt0] at c
    refine j_iconst (pc := 16) (nI 1) dX2_outside_16 (by decide) ?_
    refine j_goto (pc := 17) 21 dX2_outside_17 (by decide) ?_
    exact j_zret R dX2_outside_21 true (by first | rfl | decide) (⟨rfl, by rw [inR_f (by omega)]; rfl⟩)
  rw [i_lt0] at c
  refine j_il1n (pc := 4) dX2_outside_4 ?_
  refine j_iconst (pc := 5) (nI 1) dX2_outside_5 (by decide) ?_
  refine j_al0n (pc := 6) dX2_outside_6 ?_
  refine g2_n (pc := 7) dX2_outside_7 (by first | assumption | rfl) ?_
  refine j_ishl1 (pc := 10) dX2_outside_10 (by omega) ?_
  refine j_iconst (pc := 11) (nI 1) dX2_outside_11 (by decide) ?_
  first | with_reducible refine j_isubN (pc := 12) dX2_outside_12 (by omega) ?_ | refine j_isub (pc := 12) dX2_outside_12 ?_
  refine j_icmp_le (pc := 13) 20 dX2_outside_13 (by decide) (fun c2 => ?_) (fun c2 => ?_)
  · rw [Int32.le_iff_toInt_le, nI_toInt (by omega)] at c2
    refine j_iconst (pc := 20) (nI 0) dX2_outside_20 (by decide) ?_
    exact j_zret R dX2_outside_21 false (by first | rfl | decide) (⟨rfl, by rw [inR_t (by omega) (by omega)]; rfl⟩)
  · rw [Int32.le_iff_toInt_le, nI_toInt (by omega)] at c2
    refine j_iconst (pc := 16) (nI 1) dX2_outside_16 (by decide) ?_
    refine j_goto (pc := 17) 21 dX2_outside_17 (by decide) ?_
    exact j_zret R dX2_outside_21 true (by first | rfl | decide) (⟨rfl, by rw [inR_f (by omega)]; rfl⟩)
set_option maxHeartbeats 1000000 in
theorem m2_next (ok : Ok1 n E w) {s a : Nat} (hs : s < 5) (ha : a < 2) : Mi l D (K2 h d) yX2_next cX2_next 3 0 (some .int) [.ref (h 0), .int (nI s), .int (nI a)] w (fun r w' => w = w' ∧ r = no (nx E s a)) := by
  obtain ⟨h2, h5, hE3, hE, hn⟩ := ok
  have hb := hE3 (2 * s + a)
  refine Mi.of (by decide) rfl (by simp [Value.category]) (Nat.le_of_ble_eq_true rfl) (fun X R => ?_)
  refine j_al0n (pc := 0) dX2_next_0 ?_
  refine g2_entry (pc := 1) dX2_next_1 ?_
  refine j_iconst (pc := 4) (nI 2) dX2_next_4 (by decide) ?_
  refine j_il1n (pc := 5) dX2_next_5 ?_
  first | with_reducible refine j_imulN (pc := 6) dX2_next_6 ?_ | refine j_imul (pc := 6) dX2_next_6 ?_
  refine j_il2n (pc := 7) dX2_next_7 ?_
  first | with_reducible refine j_iaddN (pc := 8) dX2_next_8 ?_ | refine j_iadd (pc := 8) dX2_next_8 ?_
  refine al2_entry (pc := 9) dX2_next_9 (by omega) (hE _ (by omega)) ?_
  refine j_iconst (pc := 10) (nI 3) dX2_next_10 (by decide) ?_
  refine j_idivN (pc := 11) dX2_next_11 (by omega) (by omega) (by omega) ?_
  refine j_iconst (pc := 12) (nI 1) dX2_next_12 (by decide) ?_
  refine j_isub (pc := 13) dX2_next_13 ?_
  exact j_iret R dX2_next_14 (⟨rfl, no_sub _⟩)
set_option maxHeartbeats 1000000 in
theorem m2_output (ok : Ok1 n E w) {s a : Nat} (hs : s < 5) (ha : a < 2) : Mi l D (K2 h d) yX2_output cX2_output 3 0 (some .int) [.ref (h 0), .int (nI s), .int (nI a)] w (fun r w' => w = w' ∧ r = no (ot E s a)) := by
  obtain ⟨h2, h5, hE3, hE, hn⟩ := ok
  have hb := hE3 (2 * s + a)
  refine Mi.of (by decide) rfl (by simp [Value.category]) (Nat.le_of_ble_eq_true rfl) (fun X R => ?_)
  refine j_al0n (pc := 0) dX2_output_0 ?_
  refine g2_entry (pc := 1) dX2_output_1 ?_
  refine j_iconst (pc := 4) (nI 2) dX2_output_4 (by decide) ?_
  refine j_il1n (pc := 5) dX2_output_5 ?_
  first | with_reducible refine j_imulN (pc := 6) dX2_output_6 ?_ | refine j_imul (pc := 6) dX2_output_6 ?_
  refine j_il2n (pc := 7) dX2_output_7 ?_
  first | with_reducible refine j_iaddN (pc := 8) dX2_output_8 ?_ | refine j_iadd (pc := 8) dX2_output_8 ?_
  refine al2_entry (pc := 9) dX2_output_9 (by omega) (hE _ (by omega)) ?_
  refine j_iconst (pc := 10) (nI 3) dX2_output_10 (by decide) ?_
  refine j_iremN (pc := 11) dX2_output_11 (by omega) (by omega) (by omega) ?_
  refine j_iconst (pc := 12) (nI 1) dX2_output_12 (by decide) ?_
  refine j_isub (pc := 13) dX2_output_13 ?_
  exact j_iret R dX2_output_14 (⟨rfl, no_sub _⟩)
set_option maxHeartbeats 1000000 in
theorem m2_in {c s : Nat} (hc : c < 32) (hs : s < 5) : Mi l D (K2 h d) yX2_in cX2_in 3 0 (some .boolean) [.ref (h 0), .int (nI c), .int (nI s)] w (fun r w' => w = w' ∧ r = bI (c.testBit s)) := by
  have hq1 : c / 2 ^ s &&& 1 < 2 ^ 31 := Nat.lt_of_le_of_lt Nat.and_le_right (by decide)
  refine Mi.of (by decide) rfl (by simp [Value.category]) (Nat.le_of_ble_eq_true rfl) (fun X R => ?_)
  refine j_il1n (pc := 0) dX2_in_0 ?_
  refine j_il2n (pc := 1) dX2_in_1 ?_
  refine j_ishrN (pc := 2) dX2_in_2 (by omega) (by omega) ?_
  refine j_iconst (pc := 3) (nI 1) dX2_in_3 (by decide) ?_
  first | with_reducible refine j_iandN (pc := 4) dX2_in_4 ?_ | refine j_iand (pc := 4) dX2_in_4 ?_
  refine j_iconst (pc := 5) (nI 1) dX2_in_5 (by decide) ?_
  refine j_icmp_neN (pc := 6) 13 dX2_in_6 (by decide) hq1 (by decide) (fun c2 => ?_) (fun c2 => ?_)
  · refine j_iconst (pc := 13) (nI 0) dX2_in_13 (by decide) ?_
    exact j_zret R dX2_in_14 false (by first | rfl | decide) (⟨rfl, by have e : c.testBit s = false := (by cases hb : c.testBit s; rfl; exact absurd ((bit_iff _ _).mpr hb) c2); rw [e]⟩)
  · refine j_iconst (pc := 9) (nI 1) dX2_in_9 (by decide) ?_
    refine j_goto (pc := 10) 14 dX2_in_10 (by decide) ?_
    exact j_zret R dX2_in_14 true (by first | rfl | decide) (⟨rfl, by rw [(bit_iff _ _).mp c2]⟩)
set_option maxHeartbeats 1000000 in
theorem m2_splits (ok : Ok1 n E w) {s t L v : Nat} (hs : s < n) (ht : t < n) (hL : 1 ≤ L) (hL2 : L ≤ 10) (hv : v < 2 ^ 31) : Mi l D (K2 h d) yX2_splits cX2_splits 9 1 (some .boolean) [.ref (h 0), .int (nI s), .int (nI t), .int (nI L), .int (nI v)] w (fun r w' => w = w' ∧ r = bI (spw E L s t v)) := by
  have ok' := ok
  obtain ⟨h2, h5, hE3, hE, hn⟩ := ok
  refine Mi.of (by decide) rfl (by simp [Value.category]) (Nat.le_of_ble_eq_true rfl) (fun X R => ?_)
  have main : ∀ k p q, k ≤ 10 → p < n → q < n → spw E (k + 1) p q v = spw E L s t v → J X (K2 h d) cX2_splits 9 1 11 [.ref (h 0), .int (nI s), .int (nI t), .int (nI L), .int (nI v), .int (nI p), .int (nI q), .int (nI k)] [] w := by
    intro k
    induction k with
    | zero =>
      intro p q _ hp hq he
      have o1 := ot_lt E p (v % 2)
      have o2 := ot_lt E q (v % 2)
      have hv2 : v % 2 < 2 := Nat.mod_lt _ (by decide)
      rw [← he, spw] at R
      refine j_il7 (pc := 11) dX2_splits_11 ?_
      refine j_if_leN (pc := 13) 65 dX2_splits_13 (by decide) (by omega) (fun c1 => ?_) (fun c1 => ?_)
      · refine j_al0n (pc := 65) dX2_splits_65 ?_
        refine j_il5 (pc := 66) dX2_splits_66 ?_
        refine j_il4 (pc := 68) dX2_splits_68 ?_
        refine j_iconst (pc := 70) (nI 1) dX2_splits_70 (by decide) ?_
        first | with_reducible refine j_iandN (pc := 71) dX2_splits_71 ?_ | refine j_iand (pc := 71) dX2_splits_71 ?_
        rw [Nat.and_one_is_mod]
        refine cl2_output (pc := 72) dX2_splits_72 (m2_output ok' (by omega) hv2) (fun r w' e => ?_)
        obtain ⟨rfl, rfl⟩ := e
        first | refine j_st7_s (pc := 75) dX2_splits_75 ?_ | refine j_st7_a (pc := 75) dX2_splits_75 ?_
        refine j_al0n (pc := 77) dX2_splits_77 ?_
        refine j_il6 (pc := 78) dX2_splits_78 ?_
        refine j_il4 (pc := 80) dX2_splits_80 ?_
        refine j_iconst (pc := 82) (nI 1) dX2_splits_82 (by decide) ?_
        first | with_reducible refine j_iandN (pc := 83) dX2_splits_83 ?_ | refine j_iand (pc := 83) dX2_splits_83 ?_
        rw [Nat.and_one_is_mod]
        refine cl2_output (pc := 84) dX2_splits_84 (m2_output ok' (by omega) hv2) (fun r w' e => ?_)
        obtain ⟨rfl, rfl⟩ := e
        first | refine j_st8_s (pc := 87) dX2_splits_87 ?_ | refine j_st8_a (pc := 87) dX2_splits_87 ?_
        refine j_il7 (pc := 89) dX2_splits_89 ?_
        refine j_iconst (pc := 91) (-1) dX2_splits_91 (by decide) ?_
        refine j_icmp_eq (pc := 92) 112 dX2_splits_92 (by decide) (fun c2 => ?_) (fun c2 => ?_)
        · rw [no_m1 (by omega)] at c2
          refine j_iconst (pc := 112) (nI 0) dX2_splits_112 (by decide) ?_
          exact j_zret R dX2_splits_113 false (by first | rfl | decide) (⟨rfl, by rw [dif, c2]; rfl⟩)
        rw [no_m1 (by omega)] at c2
        refine j_il8 (pc := 95) dX2_splits_95 ?_
        refine j_iconst (pc := 97) (-1) dX2_splits_97 (by decide) ?_
        refine j_icmp_eq (pc := 98) 112 dX2_splits_98 (by decide) (fun c3 => ?_) (fun c3 => ?_)
        · rw [no_m1 (by omega)] at c3
          refine j_iconst (pc := 112) (nI 0) dX2_splits_112 (by decide) ?_
          exact j_zret R dX2_splits_113 false (by first | rfl | decide) (⟨rfl, by rw [dif, c3]; simp⟩)
        rw [no_m1 (by omega)] at c3
        refine j_il7 (pc := 101) dX2_splits_101 ?_
        refine j_il8 (pc := 103) dX2_splits_103 ?_
        refine j_icmp_eq (pc := 105) 112 dX2_splits_105 (by decide) (fun c4 => ?_) (fun c4 => ?_)
        · rw [no_eq (by omega) (by omega)] at c4
          refine j_iconst (pc := 112) (nI 0) dX2_splits_112 (by decide) ?_
          exact j_zret R dX2_splits_113 false (by first | rfl | decide) (⟨rfl, by rw [dif, c4]; simp⟩)
        · rw [no_eq (by omega) (by omega)] at c4
          refine j_iconst (pc := 108) (nI 1) dX2_splits_108 (by decide) ?_
          refine j_goto (pc := 109) 113 dX2_splits_109 (by decide) ?_
          exact j_zret R dX2_splits_113 true (by first | rfl | decide) (⟨rfl, by have e : dif E p q (v % 2) = true := (by simp [dif, c2, c3, c4]); rw [e]⟩)
      · omega
    | succ k ih =>
      intro p q hk hp hq he
      have hq1 : v / 2 ^ (k + 1) &&& 1 = v / 2 ^ (k + 1) % 2 := Nat.and_one_is_mod _
      have hv2 : v / 2 ^ (k + 1) % 2 < 2 := Nat.mod_lt _ (by decide)
      have b1 := nx_le hE3 p (v / 2 ^ (k + 1) % 2)
      have b2 := nx_le hE3 q (v / 2 ^ (k + 1) % 2)
      have he2 := he
      rw [spw] at he2
      refine j_il7 (pc := 11) dX2_splits_11 ?_
      refine j_if_leN (pc := 13) 65 dX2_splits_13 (by decide) (by omega) (fun c1 => ?_) (fun c1 => ?_)
      · omega
      refine j_il4 (pc := 16) dX2_splits_16 ?_
      refine j_il7 (pc := 18) dX2_splits_18 ?_
      refine j_ishrN (pc := 20) dX2_splits_20 (by omega) (by omega) ?_
      refine j_iconst (pc := 21) (nI 1) dX2_splits_21 (by decide) ?_
      first | with_reducible refine j_iandN (pc := 22) dX2_splits_22 ?_ | refine j_iand (pc := 22) dX2_splits_22 ?_
      rw [hq1]
      first | refine j_st8_s (pc := 23) dX2_splits_23 ?_ | refine j_st8_a (pc := 23) dX2_splits_23 ?_
      refine j_al0n (pc := 25) dX2_splits_25 ?_
      refine j_il5 (pc := 26) dX2_splits_26 ?_
      refine j_il8 (pc := 28) dX2_splits_28 ?_
      refine cl2_next (pc := 30) dX2_splits_30 (m2_next ok' (by omega) hv2) (fun r w' e => ?_)
      obtain ⟨rfl, rfl⟩ := e
      first | refine j_st5_s (pc := 33) dX2_splits_33 ?_ | refine j_st5_a (pc := 33) dX2_splits_33 ?_
      refine j_al0n (pc := 35) dX2_splits_35 ?_
      refine j_il6 (pc := 36) dX2_splits_36 ?_
      refine j_il8 (pc := 38) dX2_splits_38 ?_
      refine cl2_next (pc := 40) dX2_splits_40 (m2_next ok' (by omega) hv2) (fun r w' e => ?_)
      obtain ⟨rfl, rfl⟩ := e
      first | refine j_st6_s (pc := 43) dX2_splits_43 ?_ | refine j_st6_a (pc := 43) dX2_splits_43 ?_
      refine j_il5 (pc := 45) dX2_splits_45 ?_
      refine j_iconst (pc := 47) (-1) dX2_splits_47 (by decide) ?_
      refine j_icmp_eq (pc := 48) 57 dX2_splits_48 (by decide) (fun c2 => ?_) (fun c2 => ?_)
      · rw [no_m1 (by omega)] at c2
        refine j_iconst (pc := 57) (nI 0) dX2_splits_57 (by decide) ?_
        exact j_zret R dX2_splits_58 false (by first | rfl | decide) (⟨rfl, by rw [← he2, stp, c2]; rfl⟩)
      rw [no_m1 (by omega)] at c2
      refine j_il6 (pc := 51) dX2_splits_51 ?_
      refine j_iconst (pc := 53) (-1) dX2_splits_53 (by decide) ?_
      refine j_icmp_ne (pc := 54) 59 dX2_splits_54 (by decide) (fun c3 => ?_) (fun c3 => ?_)
      · rw [no_m1 (by omega)] at c3
        obtain ⟨p', hp'⟩ : ∃ p', nx E p (v / 2 ^ (k + 1) % 2) = p' + 1 := ⟨nx E p (v / 2 ^ (k + 1) % 2) - 1, by omega⟩
        obtain ⟨q', hq'⟩ : ∃ q', nx E q (v / 2 ^ (k + 1) % 2) = q' + 1 := ⟨nx E q (v / 2 ^ (k + 1) % 2) - 1, by omega⟩
        rw [stp, hp', hq'] at he2
        rw [hp', hq']
        simp only [no]
        refine j_dec7N (pc := 59) dX2_splits_59 (by omega) ?_
        refine j_goto (pc := 62) 11 dX2_splits_62 (by decide) ?_
        refine j_wk (ih p' q' (by omega) (by omega) (by omega) ?_) ⟨_, rfl⟩
        rw [← he2]
        simp
      · rw [no_m1 (by omega)] at c3
        refine j_iconst (pc := 57) (nI 0) dX2_splits_57 (by decide) ?_
        exact j_zret R dX2_splits_58 false (by first | rfl | decide) (⟨rfl, by rw [← he2, stp, c3]; simp⟩)
  obtain ⟨k, rfl⟩ : ∃ k, L = k + 1 := ⟨L - 1, by omega⟩
  refine j_il1n (pc := 0) dX2_splits_0 ?_
  first | refine j_st5_s (pc := 1) dX2_splits_1 ?_ | refine j_st5_a (pc := 1) dX2_splits_1 ?_
  refine j_il2n (pc := 3) dX2_splits_3 ?_
  first | refine j_st6_s (pc := 4) dX2_splits_4 ?_ | refine j_st6_a (pc := 4) dX2_splits_4 ?_
  refine j_il3n (pc := 6) dX2_splits_6 ?_
  refine j_iconst (pc := 7) (nI 1) dX2_splits_7 (by decide) ?_
  first | with_reducible refine j_isubN (pc := 8) dX2_splits_8 (by omega) ?_ | refine j_isub (pc := 8) dX2_splits_8 ?_
  first | refine j_st7_s (pc := 9) dX2_splits_9 ?_ | refine j_st7_a (pc := 9) dX2_splits_9 ?_
  exact main k s t (by omega) hs ht rfl
set_option maxHeartbeats 1000000 in
theorem m2_splitter (ok : Ok1 n E w) {s t L : Nat} (hs : s < n) (ht : t < n) (hL : 1 ≤ L) (hL2 : L ≤ 10) : Mi l D (K2 h d) yX2_splitter cX2_splitter 5 2 (some .int) [.ref (h 0), .int (nI s), .int (nI t), .int (nI L)] w (fun r w' => w = w' ∧ r = no (fwd E L s t (2 ^ L) 0)) := by
  have hP : 2 ^ L ≤ 1024 := Nat.pow_le_pow_right (n := 2) (j := 10) (by decide) hL2
  refine Mi.of (by decide) rfl (by simp [Value.category]) (Nat.le_of_ble_eq_true rfl) (fun X R => ?_)
  have main : ∀ m v, v + m = 2 ^ L → fwd E L s t m v = fwd E L s t (2 ^ L) 0 → J X (K2 h d) cX2_splitter 5 2 3 [.ref (h 0), .int (nI s), .int (nI t), .int (nI L), .int (nI v)] [] w := by
    intro m
    induction m with
    | zero =>
      intro v hv he
      refine j_il4 (pc := 3) dX2_splitter_3 ?_
      refine j_iconst (pc := 5) (nI 1) dX2_splitter_5 (by decide) ?_
      refine j_il3n (pc := 6) dX2_splitter_6 ?_
      refine j_ishl1 (pc := 7) dX2_splitter_7 (by omega) ?_
      refine j_icmp_geN (pc := 8) 32 dX2_splitter_8 (by decide) (by omega) (by omega) (fun c1 => ?_) (fun c1 => ?_)
      · refine j_iconst (pc := 32) (-1) dX2_splitter_32 (by decide) ?_
        exact j_iret R dX2_splitter_33 (⟨rfl, by rw [← he]; rfl⟩)
      · omega
    | succ m ih =>
      intro v hv he
      refine j_il4 (pc := 3) dX2_splitter_3 ?_
      refine j_iconst (pc := 5) (nI 1) dX2_splitter_5 (by decide) ?_
      refine j_il3n (pc := 6) dX2_splitter_6 ?_
      refine j_ishl1 (pc := 7) dX2_splitter_7 (by omega) ?_
      refine j_icmp_geN (pc := 8) 32 dX2_splitter_8 (by decide) (by omega) (by omega) (fun c1 => ?_) (fun c1 => ?_)
      · omega
      refine j_al0n (pc := 11) dX2_splitter_11 ?_
      refine j_il1n (pc := 12) dX2_splitter_12 ?_
      refine j_il2n (pc := 13) dX2_splitter_13 ?_
      refine j_il3n (pc := 14) dX2_splitter_14 ?_
      refine j_il4 (pc := 15) dX2_splitter_15 ?_
      refine cl2_splits (pc := 17) dX2_splitter_17 (m2_splits ok hs ht hL hL2 (by omega)) (fun r w' e => ?_)
      obtain ⟨rfl, rfl⟩ := e
      refine j_if_eqB (pc := 20) 26 dX2_splitter_20 (by decide) (fun c2 => ?_) (fun c2 => ?_)
      · refine j_inc4N (pc := 26) dX2_splitter_26 ?_
        refine j_goto (pc := 29) 3 dX2_splitter_29 (by decide) ?_
        refine ih (v + 1) (by omega) ?_
        rw [← he, fwd, if_neg (by rw [c2]; decide)]
      · refine j_il4 (pc := 23) dX2_splitter_23 ?_
        exact j_iret R dX2_splitter_25 (⟨rfl, by rw [← he, fwd, if_pos c2]; rfl⟩)
  refine j_iconst (pc := 0) (nI 0) dX2_splitter_0 (by decide) ?_
  first | refine j_st4_s (pc := 1) dX2_splitter_1 ?_ | refine j_st4_a (pc := 1) dX2_splitter_1 ?_
  exact main (2 ^ L) 0 (by omega) rfl
set_option maxHeartbeats 1000000 in
theorem m2_shortest (ok : Ok1 n E w) {s t : Nat} (hs : s < n) (ht : t < n) : Mi l D (K2 h d) yX2_shortest cX2_shortest 6 3 (some .int) [.ref (h 0), .int (nI s), .int (nI t)] w (fun r w' => w = w' ∧ r = nI (if lvl E 25 s t = 1000 then 0 else lvl E 25 s t)) := by
  have ok' := ok
  obtain ⟨h2, h5, hE3, hE, hn⟩ := ok
  have h10 := nn1_le h5
  have hm : n * (n - 1) ≤ 20 := (Nat.mul_le_mul h5 (show n - 1 ≤ 4 by omega))
  rw [← shF_lvl hE3 h2 h5 hs ht]
  refine Mi.of (by decide) rfl (by simp [Value.category]) (Nat.le_of_ble_eq_true rfl) (fun X R => ?_)
  have main : ∀ m L, L + m = n * (n - 1) / 2 + 1 → 1 ≤ L → shF E s t m L = shF E s t (n * (n - 1) / 2) 1 → J X (K2 h d) cX2_shortest 6 3 17 [.ref (h 0), .int (nI s), .int (nI t), .int (nI (n * (n - 1) / 2)), .int (nI L)] [] w := by
    intro m
    induction m with
    | zero =>
      intro L hL hL1 he
      refine j_il4 (pc := 17) dX2_shortest_17 ?_
      refine j_il3n (pc := 19) dX2_shortest_19 ?_
      refine j_icmp_gtN (pc := 20) 54 dX2_shortest_20 (by decide) (by omega) (by omega) (fun c1 => ?_) (fun c1 => ?_)
      · refine j_iconst (pc := 54) (nI 0) dX2_shortest_54 (by decide) ?_
        exact j_iret R dX2_shortest_55 (⟨rfl, by rw [← he]; rfl⟩)
      · omega
    | succ m ih =>
      intro L hL hL1 he
      refine j_il4 (pc := 17) dX2_shortest_17 ?_
      refine j_il3n (pc := 19) dX2_shortest_19 ?_
      refine j_icmp_gtN (pc := 20) 54 dX2_shortest_20 (by decide) (by omega) (by omega) (fun c1 => ?_) (fun c1 => ?_)
      · omega
      refine j_il4 (pc := 23) dX2_shortest_23 ?_
      refine j_bipush (pc := 25) (nI 10) dX2_shortest_25 (by decide) ?_
      refine j_icmp_gtN (pc := 27) 54 dX2_shortest_27 (by decide) (by omega) (by omega) (fun c2 => ?_) (fun c2 => ?_)
      · omega
      refine j_al0n (pc := 30) dX2_shortest_30 ?_
      refine j_il1n (pc := 31) dX2_shortest_31 ?_
      refine j_il2n (pc := 32) dX2_shortest_32 ?_
      refine j_il4 (pc := 33) dX2_shortest_33 ?_
      refine cl2_splitter (pc := 35) dX2_shortest_35 (m2_splitter ok' hs ht hL1 (by omega)) (fun r w' e => ?_)
      obtain ⟨rfl, rfl⟩ := e
      have hfb : fwd E L s t (2 ^ L) 0 < 2 ^ 31 := by
        have hP : 2 ^ L ≤ 1024 := Nat.pow_le_pow_right (n := 2) (j := 10) (by decide) (by omega)
        have key : ∀ m v, fwd E L s t m v ≤ v + m := by
          intro m
          induction m with
          | zero => intro v; simp [fwd]
          | succ m ih =>
            intro v
            rw [fwd]
            split
            · omega
            · have := ih (v + 1)
              omega
        have := key (2 ^ L) 0
        omega
      first | refine j_st5_s (pc := 38) dX2_shortest_38 ?_ | refine j_st5_a (pc := 38) dX2_shortest_38 ?_
      refine j_il5 (pc := 40) dX2_shortest_40 ?_
      refine j_if_lt (pc := 42) 48 dX2_shortest_42 (by decide) (fun c3 => ?_) (fun c3 => ?_)
      · rw [no_lt0 hfb] at c3
        refine j_inc4N (pc := 48) dX2_shortest_48 ?_
        refine j_goto (pc := 51) 17 dX2_shortest_51 (by decide) ?_
        refine j_wk (ih (L + 1) (by omega) (by omega) ?_) ⟨_, rfl⟩
        rw [← he, shF, if_neg (fun q => q c3)]
      · rw [no_lt0 hfb] at c3
        refine j_il4 (pc := 45) dX2_shortest_45 ?_
        exact j_iret R dX2_shortest_47 (⟨rfl, by rw [← he, shF, if_pos c3]⟩)
  refine j_al0n (pc := 0) dX2_shortest_0 ?_
  refine g2_n (pc := 1) dX2_shortest_1 (by first | assumption | rfl) ?_
  refine j_al0n (pc := 4) dX2_shortest_4 ?_
  refine g2_n (pc := 5) dX2_shortest_5 (by first | assumption | rfl) ?_
  refine j_iconst (pc := 8) (nI 1) dX2_shortest_8 (by decide) ?_
  first | with_reducible refine j_isubN (pc := 9) dX2_shortest_9 (by omega) ?_ | refine j_isub (pc := 9) dX2_shortest_9 ?_
  first | with_reducible refine j_imulN (pc := 10) dX2_shortest_10 ?_ | refine j_imul (pc := 10) dX2_shortest_10 ?_
  refine j_iconst (pc := 11) (nI 2) dX2_shortest_11 (by decide) ?_
  refine j_idivN (pc := 12) dX2_shortest_12 (by omega) (by omega) (by omega) ?_
  first | refine j_st3n_s (pc := 13) dX2_shortest_13 ?_ | refine j_st3n_a (pc := 13) dX2_shortest_13 ?_
  refine j_iconst (pc := 14) (nI 1) dX2_shortest_14 (by decide) ?_
  first | refine j_st4_s (pc := 15) dX2_shortest_15 ?_ | refine j_st4_a (pc := 15) dX2_shortest_15 ?_
  exact main (n * (n - 1) / 2) 1 (by omega) (by omega) rfl
set_option maxHeartbeats 1000000 in
theorem m2_tabulate (ok : Ok1 n E w) : Mv l D (K2 h d) yX2_tabulate cX2_tabulate 3 4 [.ref (h 0)] w (fun w' => (∀ q, q ≠ 1 → w' q = w q) ∧ Fit n E w') := by
  have ok' := ok
  obtain ⟨h2, h5, hE3, hE, hn⟩ := ok
  refine Mv.of (by decide) rfl (by simp [Value.category]) (Nat.le_of_ble_eq_true rfl) (fun X R => ?_)
  have out : ∀ m s w1, s + m = n → (∀ q, q ≠ 1 → w1 q = w q) → (∀ s' t, s' < s → t < n → w1 1 (8 * s' + t) = bI (decide (lvl E 25 s' t = 1000))) → J X (K2 h d) cX2_tabulate 3 4 2 [.ref (h 0), .int (nI s)] [] w1 := by
    intro m
    induction m with
    | zero =>
      intro s w1 hs f1 f2
      have hn2 : w1 10 0 = nI n := by rw [f1 10 (by decide)]; exact hn
      refine j_il1n (pc := 2) dX2_tabulate_2 ?_
      refine j_al0n (pc := 3) dX2_tabulate_3 ?_
      refine g2_n (pc := 4) dX2_tabulate_4 (by first | assumption | rfl) ?_
      refine j_icmp_geN (pc := 7) 72 dX2_tabulate_7 (by decide) (by omega) (by omega) (fun c1 => ?_) (fun c1 => ?_)
      · exact j_vret R dX2_tabulate_72 (⟨f1, fun s' t h1 h3 => f2 s' t (by omega) h3⟩)
      · omega
    | succ m ih =>
      intro s w1 hs f1 f2
      have hn2 : w1 10 0 = nI n := by rw [f1 10 (by decide)]; exact hn
      refine j_il1n (pc := 2) dX2_tabulate_2 ?_
      refine j_al0n (pc := 3) dX2_tabulate_3 ?_
      refine g2_n (pc := 4) dX2_tabulate_4 (by first | assumption | rfl) ?_
      refine j_icmp_geN (pc := 7) 72 dX2_tabulate_7 (by decide) (by omega) (by omega) (fun c1 => ?_) (fun c1 => ?_)
      · omega
      refine j_il1n (pc := 10) dX2_tabulate_10 ?_
      refine j_iconst (pc := 11) (nI 5) dX2_tabulate_11 (by decide) ?_
      refine j_icmp_geN (pc := 12) 72 dX2_tabulate_12 (by decide) (by omega) (by omega) (fun c2 => ?_) (fun c2 => ?_)
      · omega
      refine j_iconst (pc := 15) (nI 0) dX2_tabulate_15 (by decide) ?_
      first | refine j_st2n_s (pc := 16) dX2_tabulate_16 ?_ | refine j_st2n_a (pc := 16) dX2_tabulate_16 ?_
      have inn : ∀ m2 t w2, t + m2 = n → (∀ q, q ≠ 1 → w2 q = w q) → (∀ s' t', s' < s → t' < n → w2 1 (8 * s' + t') = bI (decide (lvl E 25 s' t' = 1000))) → (∀ t', t' < t → w2 1 (8 * s + t') = bI (decide (lvl E 25 s t' = 1000))) → J X (K2 h d) cX2_tabulate 3 4 17 [.ref (h 0), .int (nI s), .int (nI t)] [] w2 := by
        intro m2
        induction m2 with
        | zero =>
          intro t w2 ht g1 g2 g3
          have hn3 : w2 10 0 = nI n := by rw [g1 10 (by decide)]; exact hn
          refine j_il2n (pc := 17) dX2_tabulate_17 ?_
          refine j_al0n (pc := 18) dX2_tabulate_18 ?_
          refine g2_n (pc := 19) dX2_tabulate_19 (by first | assumption | rfl) ?_
          refine j_icmp_geN (pc := 22) 66 dX2_tabulate_22 (by decide) (by omega) (by omega) (fun c3 => ?_) (fun c3 => ?_)
          · refine j_inc1N (pc := 66) dX2_tabulate_66 ?_
            refine j_goto (pc := 69) 2 dX2_tabulate_69 (by decide) ?_
            refine j_wk (ih (s + 1) w2 (by omega) g1 (fun s' t' h1 h3 => ?_)) ⟨_, rfl⟩
            by_cases e : s' = s
            · rw [e]
              exact g3 t' (by omega)
            · exact g2 s' t' (by omega) h3
          · omega
        | succ m2 ih2 =>
          intro t w2 ht g1 g2 g3
          have hn3 : w2 10 0 = nI n := by rw [g1 10 (by decide)]; exact hn
          have ok2 : Ok1 n E w2 := ok'.fr (g1 0 (by decide)) (by rw [g1 10 (by decide)])
          have h59 : ∀ b, b = decide (lvl E 25 s t = 1000) → J X (K2 h d) cX2_tabulate 3 4 59 [.ref (h 0), .int (nI s), .int (nI t)] [.int (bI b), .int (nI (8 * s + t)), .ref (h 2)] w2 := by
            intro b hb
            refine as2_fits (pc := 59) dX2_tabulate_59 (by omega) ?_
            refine j_inc2N (pc := 60) dX2_tabulate_60 ?_
            refine j_goto (pc := 63) 17 dX2_tabulate_63 (by decide) ?_
            refine ih2 (t + 1) _ (by omega) (fun q hq => by rw [wset_i _ _ hq]; exact g1 q hq) (fun s' t' h1 h3 => ?_) (fun t' h3 => ?_)
            · rw [wset_k _ _ (by omega)]
              exact g2 s' t' h1 h3
            · by_cases e : t' = t
              · rw [e, wset_s, hb]
              · rw [wset_k _ _ (by omega)]
                exact g3 t' (by omega)
          refine j_il2n (pc := 17) dX2_tabulate_17 ?_
          refine j_al0n (pc := 18) dX2_tabulate_18 ?_
          refine g2_n (pc := 19) dX2_tabulate_19 (by first | assumption | rfl) ?_
          refine j_icmp_geN (pc := 22) 66 dX2_tabulate_22 (by decide) (by omega) (by omega) (fun c3 => ?_) (fun c3 => ?_)
          · omega
          refine j_il2n (pc := 25) dX2_tabulate_25 ?_
          refine j_iconst (pc := 26) (nI 5) dX2_tabulate_26 (by decide) ?_
          refine j_icmp_geN (pc := 27) 66 dX2_tabulate_27 (by decide) (by omega) (by omega) (fun c4 => ?_) (fun c4 => ?_)
          · omega
          refine j_al0n (pc := 30) dX2_tabulate_30 ?_
          refine g2_fits (pc := 31) dX2_tabulate_31 ?_
          refine j_bipush (pc := 34) (nI 8) dX2_tabulate_34 (by decide) ?_
          refine j_il1n (pc := 36) dX2_tabulate_36 ?_
          first | with_reducible refine j_imulN (pc := 37) dX2_tabulate_37 ?_ | refine j_imul (pc := 37) dX2_tabulate_37 ?_
          refine j_il2n (pc := 38) dX2_tabulate_38 ?_
          first | with_reducible refine j_iaddN (pc := 39) dX2_tabulate_39 ?_ | refine j_iadd (pc := 39) dX2_tabulate_39 ?_
          refine j_il1n (pc := 40) dX2_tabulate_40 ?_
          refine j_il2n (pc := 41) dX2_tabulate_41 ?_
          refine j_icmp_eqN (pc := 42) 54 dX2_tabulate_42 (by decide) (by omega) (by omega) (fun c5 => ?_) (fun c5 => ?_)
          · subst c5
            refine j_iconst (pc := 54) (bI true) dX2_tabulate_54 (by decide) ?_
            refine j_goto (pc := 55) 59 dX2_tabulate_55 (by decide) ?_
            exact h59 true (decide_eq_true (lvl_refl E s)).symm
          refine j_al0n (pc := 45) dX2_tabulate_45 ?_
          refine j_il1n (pc := 46) dX2_tabulate_46 ?_
          refine j_il2n (pc := 47) dX2_tabulate_47 ?_
          refine cl2_shortest (pc := 48) dX2_tabulate_48 (m2_shortest ok2 (by omega) (by omega)) (fun r w' e => ?_)
          obtain ⟨rfl, rfl⟩ := e
          have hle := lvl_le E (k := 25) (by omega) s t
          have hor := lvl_or E 25 s t
          refine j_if_neN (pc := 51) 58 dX2_tabulate_51 (by decide) (by split <;> omega) (fun c6 => ?_) (fun c6 => ?_)
          · refine j_iconst (pc := 58) (bI false) dX2_tabulate_58 (by decide) ?_
            refine h59 false (decide_eq_false (fun q => ?_)).symm
            rw [if_pos q] at c6
            exact c6 rfl
          · refine j_iconst (pc := 54) (bI true) dX2_tabulate_54 (by decide) ?_
            refine j_goto (pc := 55) 59 dX2_tabulate_55 (by decide) ?_
            refine h59 true (decide_eq_true ?_).symm
            by_cases q : lvl E 25 s t = 1000
            · exact q
            · rw [if_neg q] at c6
              omega
      exact inn n 0 w1 (by omega) f1 f2 (fun t' h3 => by omega)
  refine j_iconst (pc := 0) (nI 0) dX2_tabulate_0 (by decide) ?_
  first | refine j_st1n_s (pc := 1) dX2_tabulate_1 ?_ | refine j_st1n_a (pc := 1) dX2_tabulate_1 ?_
  exact out n 0 w (by omega) (fun _ _ => rfl) (fun s' t h1 _ => by omega)
set_option maxHeartbeats 1000000 in
theorem m2_agreeing (ok : Ok1 n E w) (hf : Fit n E w) {c : Nat} (hc : c < 32) : Mi l D (K2 h d) yX2_agreeing cX2_agreeing 4 1 (some .boolean) [.ref (h 0), .int (nI c)] w (fun r w' => w = w' ∧ r = bI (hold n (lvl E 25) c)) := by
  obtain ⟨h2, h5, hE3, hE, hn⟩ := ok
  refine Mi.of (by decide) rfl (by simp [Value.category]) (Nat.le_of_ble_eq_true rfl) (fun X R => ?_)
  have out : ∀ m s, s + m = n → (∀ s' t, s' < s → t < n → c.testBit s' = true → c.testBit t = true → lvl E 25 s' t = 1000) → J X (K2 h d) cX2_agreeing 4 1 2 [.ref (h 0), .int (nI c), .int (nI s)] [] w := by
    intro m
    induction m with
    | zero =>
      intro s hs f1
      refine j_il2n (pc := 2) dX2_agreeing_2 ?_
      refine j_al0n (pc := 3) dX2_agreeing_3 ?_
      refine g2_n (pc := 4) dX2_agreeing_4 (by first | assumption | rfl) ?_
      refine j_icmp_geN (pc := 7) 76 dX2_agreeing_7 (by decide) (by omega) (by omega) (fun c1 => ?_) (fun c1 => ?_)
      · refine j_iconst (pc := 76) (nI 1) dX2_agreeing_76 (by decide) ?_
        exact j_zret R dX2_agreeing_77 true (by first | rfl | decide) (⟨rfl, by rw [hold, decide_eq_true (fun s' h1 t h3 b1 b2 => f1 s' t (by omega) h3 b1 b2)]⟩)
      · omega
    | succ m ih =>
      intro s hs f1
      refine j_il2n (pc := 2) dX2_agreeing_2 ?_
      refine j_al0n (pc := 3) dX2_agreeing_3 ?_
      refine g2_n (pc := 4) dX2_agreeing_4 (by first | assumption | rfl) ?_
      refine j_icmp_geN (pc := 7) 76 dX2_agreeing_7 (by decide) (by omega) (by omega) (fun c1 => ?_) (fun c1 => ?_)
      · omega
      refine j_il2n (pc := 10) dX2_agreeing_10 ?_
      refine j_iconst (pc := 11) (nI 5) dX2_agreeing_11 (by decide) ?_
      refine j_icmp_geN (pc := 12) 76 dX2_agreeing_12 (by decide) (by omega) (by omega) (fun c2 => ?_) (fun c2 => ?_)
      · omega
      refine j_iconst (pc := 15) (nI 0) dX2_agreeing_15 (by decide) ?_
      first | refine j_st3n_s (pc := 16) dX2_agreeing_16 ?_ | refine j_st3n_a (pc := 16) dX2_agreeing_16 ?_
      have inn : ∀ m2 t, t + m2 = n → (∀ t', t' < t → c.testBit s = true → c.testBit t' = true → lvl E 25 s t' = 1000) → J X (K2 h d) cX2_agreeing 4 1 17 [.ref (h 0), .int (nI c), .int (nI s), .int (nI t)] [] w := by
        intro m2
        induction m2 with
        | zero =>
          intro t ht g1
          refine j_il3n (pc := 17) dX2_agreeing_17 ?_
          refine j_al0n (pc := 18) dX2_agreeing_18 ?_
          refine g2_n (pc := 19) dX2_agreeing_19 (by first | assumption | rfl) ?_
          refine j_icmp_geN (pc := 22) 70 dX2_agreeing_22 (by decide) (by omega) (by omega) (fun c3 => ?_) (fun c3 => ?_)
          · refine j_inc2N (pc := 70) dX2_agreeing_70 ?_
            refine j_goto (pc := 73) 2 dX2_agreeing_73 (by decide) ?_
            refine j_wk (ih (s + 1) (by omega) (fun s' t' h1 h3 b1 b2 => ?_)) ⟨_, rfl⟩
            by_cases e : s' = s
            · subst e
              exact g1 t' (by omega) b1 b2
            · exact f1 s' t' (by omega) h3 b1 b2
          · omega
        | succ m2 ih2 =>
          intro t ht g1
          have nxt : (c.testBit s = true → c.testBit t = true → lvl E 25 s t = 1000) → J X (K2 h d) cX2_agreeing 4 1 64 [.ref (h 0), .int (nI c), .int (nI s), .int (nI t)] [] w := by
            intro q
            refine j_inc3N (pc := 64) dX2_agreeing_64 ?_
            refine j_goto (pc := 67) 17 dX2_agreeing_67 (by decide) ?_
            refine ih2 (t + 1) (by omega) (fun t' h1 b1 b2 => ?_)
            by_cases e : t' = t
            · subst e
              exact q b1 b2
            · exact g1 t' (by omega) b1 b2
          refine j_il3n (pc := 17) dX2_agreeing_17 ?_
          refine j_al0n (pc := 18) dX2_agreeing_18 ?_
          refine g2_n (pc := 19) dX2_agreeing_19 (by first | assumption | rfl) ?_
          refine j_icmp_geN (pc := 22) 70 dX2_agreeing_22 (by decide) (by omega) (by omega) (fun c3 => ?_) (fun c3 => ?_)
          · omega
          refine j_il3n (pc := 25) dX2_agreeing_25 ?_
          refine j_iconst (pc := 26) (nI 5) dX2_agreeing_26 (by decide) ?_
          refine j_icmp_geN (pc := 27) 70 dX2_agreeing_27 (by decide) (by omega) (by omega) (fun c4 => ?_) (fun c4 => ?_)
          · omega
          refine j_al0n (pc := 30) dX2_agreeing_30 ?_
          refine j_il1n (pc := 31) dX2_agreeing_31 ?_
          refine j_il2n (pc := 32) dX2_agreeing_32 ?_
          refine cl2_in (pc := 33) dX2_agreeing_33 (m2_in hc (by omega)) (fun r w' e => ?_)
          obtain ⟨rfl, rfl⟩ := e
          refine j_if_eqB (pc := 36) 64 dX2_agreeing_36 (by decide) (fun c5 => ?_) (fun c5 => ?_)
          · exact nxt (fun b => by rw [c5] at b; exact absurd b (by decide))
          refine j_al0n (pc := 39) dX2_agreeing_39 ?_
          refine j_il1n (pc := 40) dX2_agreeing_40 ?_
          refine j_il3n (pc := 41) dX2_agreeing_41 ?_
          refine cl2_in (pc := 42) dX2_agreeing_42 (m2_in hc (by omega)) (fun r w' e => ?_)
          obtain ⟨rfl, rfl⟩ := e
          refine j_if_eqB (pc := 45) 64 dX2_agreeing_45 (by decide) (fun c6 => ?_) (fun c6 => ?_)
          · exact nxt (fun _ b => by rw [c6] at b; exact absurd b (by decide))
          refine j_al0n (pc := 48) dX2_agreeing_48 ?_
          refine g2_fits (pc := 49) dX2_agreeing_49 ?_
          refine j_bipush (pc := 52) (nI 8) dX2_agreeing_52 (by decide) ?_
          refine j_il2n (pc := 54) dX2_agreeing_54 ?_
          first | with_reducible refine j_imulN (pc := 55) dX2_agreeing_55 ?_ | refine j_imul (pc := 55) dX2_agreeing_55 ?_
          refine j_il3n (pc := 56) dX2_agreeing_56 ?_
          first | with_reducible refine j_iaddN (pc := 57) dX2_agreeing_57 ?_ | refine j_iadd (pc := 57) dX2_agreeing_57 ?_
          refine al2_fits (pc := 58) dX2_agreeing_58 (by omega) (hf s t (by omega) (by omega)) ?_
          refine j_if_neB (pc := 59) 64 dX2_agreeing_59 (by decide) (fun c7 => ?_) (fun c7 => ?_)
          · exact nxt (fun _ _ => of_decide_eq_true c7)
          · have c7 := of_decide_eq_false c7
            refine j_iconst (pc := 62) (nI 0) dX2_agreeing_62 (by decide) ?_
            exact j_zret R dX2_agreeing_63 false (by first | rfl | decide) (⟨rfl, by rw [hold, decide_eq_false (fun q => c7 (q s (by omega) t (by omega) c5 c6))]⟩)
      exact inn n 0 (by omega) (fun t' h1 => by omega)
  refine j_iconst (pc := 0) (nI 0) dX2_agreeing_0 (by decide) ?_
  first | refine j_st2n_s (pc := 1) dX2_agreeing_1 ?_ | refine j_st2n_a (pc := 1) dX2_agreeing_1 ?_
  exact out n 0 (by omega) (fun s' t h1 => by omega)
set_option maxHeartbeats 1000000 in
theorem m2_image (ok : Ok1 n E w) {c a : Nat} (hc : c < 32) (ha : a < 2) : Mi l D (K2 h d) yX2_image cX2_image 6 1 (some .int) [.ref (h 0), .int (nI c), .int (nI a)] w (fun r w' => w = w' ∧ r = nI (imN E c a n)) := by
  have ok' := ok
  obtain ⟨h2, h5, hE3, hE, hn⟩ := ok
  refine Mi.of (by decide) rfl (by simp [Value.category]) (Nat.le_of_ble_eq_true rfl) (fun X R => ?_)
  have L : ∀ m s, s + m = n → J X (K2 h d) cX2_image 6 1 5 [.ref (h 0), .int (nI c), .int (nI a), .int (nI (imN E c a s)), .int (nI s)] [] w := by
    intro m
    induction m with
    | zero =>
      intro s hs
      refine j_il4 (pc := 5) dX2_image_5 ?_
      refine j_al0n (pc := 7) dX2_image_7 ?_
      refine g2_n (pc := 8) dX2_image_8 (by first | assumption | rfl) ?_
      refine j_icmp_geN (pc := 11) 58 dX2_image_11 (by decide) (by omega) (by omega) (fun c1 => ?_) (fun c1 => ?_)
      · refine j_il3n (pc := 58) dX2_image_58 ?_
        exact j_iret R dX2_image_59 (⟨rfl, by rw [show s = n by omega]⟩)
      · omega
    | succ m ih =>
      intro s hs
      have b1 := nx_le hE3 s a
      have nxt : ∀ r v, r = imN E c a (s + 1) → J X (K2 h d) cX2_image 6 1 52 [.ref (h 0), .int (nI c), .int (nI a), .int (nI r), .int (nI s), .int v] [] w := by
        intro r v e
        subst e
        refine j_inc4N (pc := 52) dX2_image_52 ?_
        refine j_goto (pc := 55) 5 dX2_image_55 (by decide) ?_
        exact j_wk (ih (s + 1) (by omega)) ⟨_, rfl⟩
      refine j_il4 (pc := 5) dX2_image_5 ?_
      refine j_al0n (pc := 7) dX2_image_7 ?_
      refine g2_n (pc := 8) dX2_image_8 (by first | assumption | rfl) ?_
      refine j_icmp_geN (pc := 11) 58 dX2_image_11 (by decide) (by omega) (by omega) (fun c1 => ?_) (fun c1 => ?_)
      · omega
      refine j_il4 (pc := 14) dX2_image_14 ?_
      refine j_iconst (pc := 16) (nI 5) dX2_image_16 (by decide) ?_
      refine j_icmp_geN (pc := 17) 58 dX2_image_17 (by decide) (by omega) (by omega) (fun c0 => ?_) (fun c0 => ?_)
      · omega
      refine j_al0n (pc := 20) dX2_image_20 ?_
      refine j_il4 (pc := 21) dX2_image_21 ?_
      refine j_il2n (pc := 23) dX2_image_23 ?_
      refine cl2_next (pc := 24) dX2_image_24 (m2_next ok' (by omega) ha) (fun r w' e => ?_)
      obtain ⟨rfl, rfl⟩ := e
      first | refine j_st5_s (pc := 27) dX2_image_27 ?_ | refine j_st5_a (pc := 27) dX2_image_27 ?_
      refine j_al0n (pc := 29) dX2_image_29 ?_
      refine j_il1n (pc := 30) dX2_image_30 ?_
      refine j_il4 (pc := 31) dX2_image_31 ?_
      refine cl2_in (pc := 33) dX2_image_33 (m2_in hc (by omega)) (fun r w' e => ?_)
      obtain ⟨rfl, rfl⟩ := e
      refine j_if_eqB (pc := 36) 52 dX2_image_36 (by decide) (fun c2 => ?_) (fun c2 => ?_)
      · exact nxt _ _ (by rw [imN, if_neg (fun q => by rw [c2] at q; exact absurd q.1 (by decide))])
      refine j_il5 (pc := 39) dX2_image_39 ?_
      refine j_iconst (pc := 41) (-1) dX2_image_41 (by decide) ?_
      refine j_icmp_eq (pc := 42) 52 dX2_image_42 (by decide) (fun c3 => ?_) (fun c3 => ?_)
      · rw [no_m1 (by omega)] at c3
        exact nxt _ _ (by rw [imN, if_neg (fun q => q.2 c3)])
      · rw [no_m1 (by omega)] at c3
        obtain ⟨t, ht⟩ : ∃ t, nx E s a = t + 1 := ⟨nx E s a - 1, by omega⟩
        have e2 : imN E c a (s + 1) = imN E c a s ||| 2 ^ t := by
          rw [imN, if_pos ⟨c2, c3⟩, ht]
          rfl
        rw [ht]
        simp only [no]
        refine j_il3n (pc := 45) dX2_image_45 ?_
        refine j_iconst (pc := 46) (nI 1) dX2_image_46 (by decide) ?_
        refine j_il5 (pc := 47) dX2_image_47 ?_
        refine j_ishl1 (pc := 49) dX2_image_49 (by omega) ?_
        first | with_reducible refine j_iorN (pc := 50) dX2_image_50 ?_ | refine j_ior (pc := 50) dX2_image_50 ?_
        first | refine j_st3n_s (pc := 51) dX2_image_51 ?_ | refine j_st3n_a (pc := 51) dX2_image_51 ?_
        exact nxt _ _ e2.symm
  refine j_iconst (pc := 0) (nI 0) dX2_image_0 (by decide) ?_
  first | refine j_st3n_s (pc := 1) dX2_image_1 ?_ | refine j_st3n_a (pc := 1) dX2_image_1 ?_
  refine j_iconst (pc := 2) (nI 0) dX2_image_2 (by decide) ?_
  first | refine j_st4_s (pc := 3) dX2_image_3 ?_ | refine j_st4_a (pc := 3) dX2_image_3 ?_
  exact L n 0 (by omega)
end S2
end
section
/-! pure: ranks in the list of compatible sets, the largest sets, the reference's lists -/
set_option maxRecDepth 100000
def hq (n : Nat) (E : Nat → Nat) (c : Nat) : Bool := hp n (lvl E 25) c
def rk (n : Nat) (E : Nat → Nat) (m : Nat) : Nat := (cst (hq n E) m).length
theorem CS_hq (n : Nat) (E : Nat → Nat) : CS n E = cst (hq n E) (2 ^ n) := rfl
theorem hq_hold {n : Nat} {E : Nat → Nat} {c : Nat} (h : 1 ≤ c) : hq n E c = hold n (lvl E 25) c := by simp [hq, hp, h]
theorem hq_0 (n : Nat) (E : Nat → Nat) : hq n E 0 = false := rfl
theorem rk_t {n : Nat} {E : Nat → Nat} {m : Nat} (h : hq n E m = true) : rk n E (m + 1) = rk n E m + 1 := by
  unfold rk
  rw [cst, if_pos h, List.length_append]
  rfl
theorem rk_f {n : Nat} {E : Nat → Nat} {m : Nat} (h : hq n E m = false) : rk n E (m + 1) = rk n E m := by
  unfold rk
  rw [cst, if_neg (by rw [h]; decide)]
theorem rk_mono {n : Nat} {E : Nat → Nat} {a b : Nat} (h : a ≤ b) : rk n E a ≤ rk n E b := by
  induction b with
  | zero => rw [show a = 0 by omega]; exact Nat.le_refl _
  | succ b ih =>
    by_cases e : a = b + 1
    · rw [e]; exact Nat.le_refl _
    · have := ih (by omega)
      cases hb : hq n E b with
      | true => rw [rk_t hb]; omega
      | false => rw [rk_f hb]; exact this
theorem rk_all (n : Nat) (E : Nat → Nat) : rk n E (2 ^ n) = (CS n E).length := rfl
theorem rk_1 (n : Nat) (E : Nat → Nat) : rk n E 1 = 0 := rk_f (m := 0) rfl
theorem cst_getD {p : Nat → Bool} {i : Nat} : ∀ m' m, m ≤ m' → i < (cst p m).length → (cst p m').getD i 0 = (cst p m).getD i 0 := by
  intro m'
  induction m' with
  | zero => intro m h hi; rw [show m = 0 by omega]
  | succ m' ih =>
    intro m h hi
    by_cases e : m = m' + 1
    · rw [e]
    · have h1 := ih m (by omega) hi
      have hmono : (cst p m).length ≤ (cst p m').length := by
        clear ih h1 hi
        have hm : m ≤ m' := by omega
        clear e h
        induction m' with
        | zero => rw [show m = 0 by omega]; exact Nat.le_refl _
        | succ m' ih2 =>
          by_cases e2 : m = m' + 1
          · rw [e2]; exact Nat.le_refl _
          · have := ih2 (by omega)
            rw [cst]
            split
            · rw [List.length_append]; omega
            · exact this
      rw [cst]
      split
      · rw [getD_app_lt (by omega)]
        exact h1
      · exact h1
theorem cs_at {n : Nat} {E : Nat → Nat} {c : Nat} (h : hq n E c = true) (hc : c < 2 ^ n) : rk n E c < (CS n E).length ∧ (CS n E).getD (rk n E c) 0 = c := by
  have h1 : rk n E (c + 1) ≤ (CS n E).length := rk_mono (n := n) (E := E) (show c + 1 ≤ 2 ^ n by omega)
  rw [rk_t h] at h1
  refine ⟨by omega, ?_⟩
  have hl : rk n E c < (cst (hq n E) (c + 1)).length := by
    show rk n E c < rk n E (c + 1)
    rw [rk_t h]
    omega
  rw [CS_hq, cst_getD (2 ^ n) (c + 1) (by omega) hl, cst, if_pos h]
  exact getD_app_at
theorem CS_hq_mem {n : Nat} {E : Nat → Nat} {i : Nat} (h : i < (CS n E).length) : hq n E ((CS n E).getD i 0) = true ∧ (CS n E).getD i 0 < 2 ^ n ∧ 1 ≤ (CS n E).getD i 0 := by
  have hm := getD_mem h
  have := (cst_mem _).mp hm
  refine ⟨this.2, this.1, ?_⟩
  rcases Nat.eq_zero_or_pos ((CS n E).getD i 0) with q | q
  · have h2 := this.2
    rw [q] at h2
    exact absurd h2 (by simp [hp])
  · exact q
theorem CS_inj {n : Nat} {E : Nat → Nat} {i j : Nat} (hi : i < (CS n E).length) (hj : j < (CS n E).length) (h : (CS n E).getD i 0 = (CS n E).getD j 0) : i = j := by
  rcases Nat.lt_trichotomy i j with q | q | q
  · have : (CS n E).getD i 0 < (CS n E).getD j 0 := getD_lt_of_sorted (cst_sorted _ _) q hj
    omega
  · exact q
  · have : (CS n E).getD j 0 < (CS n E).getD i 0 := getD_lt_of_sorted (cst_sorted _ _) q hi
    omega
theorem CS_lt_lt {n : Nat} {E : Nat → Nat} {i j : Nat} (hij : i < j) (hj : j < (CS n E).length) : (CS n E).getD i 0 < (CS n E).getD j 0 := getD_lt_of_sorted (cst_sorted _ _) hij hj
theorem rk_of {n : Nat} {E : Nat → Nat} {i : Nat} (h : i < (CS n E).length) : rk n E ((CS n E).getD i 0) = i := by
  obtain ⟨h1, h2, -⟩ := CS_hq_mem h
  obtain ⟨h3, h4⟩ := cs_at h1 h2
  exact CS_inj h3 h h4
theorem rk_of1 {n : Nat} {E : Nat → Nat} {i : Nat} (h : i < (CS n E).length) : rk n E ((CS n E).getD i 0 + 1) = i + 1 := by
  rw [rk_t (CS_hq_mem h).1, rk_of h]
/-- between two neighbours there is none -/
theorem hq_between {n : Nat} {E : Nat → Nat} {i c : Nat} (h : i < (CS n E).length) (h1 : (CS n E).getD i 0 < c) (h2 : c < 2 ^ n) (h3 : i + 1 < (CS n E).length → c < (CS n E).getD (i + 1) 0) : hq n E c = false := by
  cases hb : hq n E c with
  | false => rfl
  | true =>
    obtain ⟨q1, q2⟩ := cs_at hb h2
    rcases Nat.lt_trichotomy (rk n E c) i with q | q | q
    · have := CS_lt_lt q h
      omega
    · rw [q] at q2
      omega
    · rcases Nat.lt_trichotomy (rk n E c) (i + 1) with r | r | r
      · omega
      · rw [r] at q2 q1
        have := h3 q1
        omega
      · have := CS_lt_lt r q1
        have := h3 (by omega)
        omega
/-- the number of lists -/
def bn : Nat → Nat → Nat
  | 0, _ => 1
  | 1, m => m
  | r + 2, m => Nat.rec 0 (fun j acc => bn (r + 1) j + acc) m
theorem bn_ss (r m : Nat) : bn (r + 1) (m + 1) = bn r m + bn (r + 1) m := by
  cases r with
  | zero => simp [bn]; omega
  | succ r => rfl
theorem bn_0 (r : Nat) : bn (r + 1) 0 = 0 := by cases r <;> rfl
theorem cmb_len : ∀ m r a, (cmb m r a).length = bn r m := by
  intro m
  induction m with
  | zero =>
    intro r a
    cases r with
    | zero => rfl
    | succ r => rw [cmb, bn_0]; rfl
  | succ m ih =>
    intro r a
    cases r with
    | zero => rfl
    | succ r => rw [cmb, List.length_append, List.length_map, ih, ih, bn_ss]
theorem bn_mono (r : Nat) {a b : Nat} (h : a ≤ b) : bn r a ≤ bn r b := by
  induction b with
  | zero => rw [show a = 0 by omega]; exact Nat.le_refl _
  | succ b ih =>
    by_cases e : a = b + 1
    · rw [e]; exact Nat.le_refl _
    · have := ih (by omega)
      cases r with
      | zero => exact Nat.le_refl _
      | succ r => rw [bn_ss]; omega
theorem bn_num : bn 1 31 ≤ 200000 ∧ bn 2 31 ≤ 200000 ∧ bn 3 31 ≤ 200000 ∧ bn 4 31 ≤ 200000 ∧ bn 5 31 ≤ 200000 := by decide +kernel
theorem cmb_few {N k : Nat} (h1 : 1 ≤ k) (h5 : k ≤ 5) (hN : N ≤ 31) : (cmb N k 0).length ≤ 200000 := by
  obtain ⟨n1, n2, n3, n4, n5⟩ := bn_num
  rw [cmb_len]
  refine Nat.le_trans (bn_mono k hN) ?_
  rcases (show k = 1 ∨ k = 2 ∨ k = 3 ∨ k = 4 ∨ k = 5 by omega) with rfl | rfl | rfl | rfl | rfl
  · exact n1
  · exact n2
  · exact n3
  · exact n4
  · exact n5
def pfill (p : Nat → Nat) (d q : Nat) : Nat → Nat := fun j => if j < d then p j else q + (j - d)
/-- the first list from a state on, and what is left behind it -/
theorem todo_first {N k : Nat} : ∀ e d q (p : Nat → Nat), d + e + 1 = k → q + (k - d) ≤ N → todo N k p d q = preL (pfill p d q) k :: todo N k (pfill p d q) (k - 1) (pfill p d q (k - 1) + 1) := by
  intro e
  induction e with
  | zero =>
    intro d q p hd hq
    obtain rfl : d = k - 1 := by omega
    have e1 : pfill p (k - 1) q (k - 1) = q := by simp [pfill]
    have e2 : ∀ i, i < k - 1 → p i = pfill p (k - 1) q i := fun i hi => by simp [pfill, hi]
    rw [todo_leaf (by omega) (by omega), e1, todo_congr (p := p) (p' := pfill p (k - 1) q) _ _ e2]
    congr 1
    apply preL_congr
    intro i hi
    by_cases h : i = k - 1
    · rw [h, pset_s, e1]
    · rw [pset_n _ h, e2 i (by omega)]
  | succ e ih =>
    intro d q p hd hq
    rw [todo_down (by omega) (by omega), ih (d + 1) (q + 1) (pset p d q) (by omega) (by omega)]
    have e1 : pfill (pset p d q) (d + 1) (q + 1) = pfill p d q := by
      funext j
      unfold pfill pset
      by_cases h1 : j < d
      · simp [h1, show j < d + 1 by omega, show j ≠ d by omega]
      · by_cases h2 : j = d
        · simp [h2]
        · simp [h1, show ¬ j < d + 1 by omega]
          omega
    rw [e1]
/-- levels that are at their ends are passed -/
theorem todo_ends {N k : Nat} {p : Nat → Nat} (hk : k ≤ N) : ∀ e i, i + e + 1 = k → (∀ j, i < j → j < k → p j = N - k + j) → todo N k p (k - 1) (p (k - 1) + 1) = todo N k p i (p i + 1) := by
  intro e
  induction e with
  | zero =>
    intro i hi _
    obtain rfl : i = k - 1 := by omega
    rfl
  | succ e ih =>
    intro i hi h
    rw [ih (i + 1) (by omega) (fun j h1 h2 => h j (by omega) h2), todo_back]
    rw [h (i + 1) (by omega) (by omega)]
    omega
def unf (cv : Nat → Nat) : Nat → Nat
  | 0 => 0
  | i + 1 => unf cv i ||| cv i
def covB (n : Nat) (E : Nat → Nat) (cv : Nat → Nat) (k : Nat) : Bool := decide (∀ i, i < k → hold n (lvl E 25) (cv i) = true) && clo E n cv k && decide (unf cv k = 2 ^ n - 1)
theorem clo_iff {n : Nat} {E : Nat → Nat} {cv : Nat → Nat} {k : Nat} : clo E n cv k = true ↔ ∀ i, i < k → ∀ a, a < 2 → fwF cv (imN E (cv i) a n) k 0 ≠ 0 := by
  unfold clo
  rw [decide_eq_true_iff]
  constructor
  · intro h i hi a ha
    have := h (2 * i + a) (by omega)
    rw [show (2 * i + a) / 2 = i by omega, show (2 * i + a) % 2 = a by omega] at this
    exact this
  · intro h j hj
    exact h (j / 2) (by omega) (j % 2) (by omega)
theorem unf_unl {sv p : Nat → Nat} : ∀ k, unf (fun i => sv (p i)) k = unl sv (preL p k) 0 := by
  intro k
  induction k with
  | zero => rfl
  | succ k ih => rw [unf, preL_succ, unl_app, ih]; rfl
theorem unf_congr {cv cv' : Nat → Nat} : ∀ k, (∀ i, i < k → cv i = cv' i) → unf cv k = unf cv' k := by
  intro k
  induction k with
  | zero => intro _; rfl
  | succ k ih => intro h; rw [unf, unf, ih (fun i hi => h i (by omega)), h k (by omega)]
theorem covB_PP {n : Nat} {E : Nat → Nat} {cv p : Nat → Nat} {k : Nat} (hp : ∀ i, i < k → p i < (CS n E).length) (hcv : ∀ i, i < k → cv i = (CS n E).getD (p i) 0) : covB n E cv k = PP E n (CS n E) k (preL p k) := by
  have e1 : unf cv k = unl (fun j => (CS n E).getD j 0) (preL p k) 0 := by
    rw [← unf_unl (sv := fun j => (CS n E).getD j 0)]
    exact unf_congr k hcv
  have e2 : clo E n (fun i => (CS n E).getD ((preL p k).getD i 0) 0) k = clo E n cv k := clo_congr (fun i hi => by simp only [preL_getD _ hi]; exact (hcv i hi).symm)
  have e3 : decide (∀ i, i < k → hold n (lvl E 25) (cv i) = true) = true := decide_eq_true (fun i hi => by rw [hcv i hi]; exact CS_hold (getD_mem (hp i hi)))
  unfold covB PP
  rw [e1, e2, e3, Bool.true_and, Bool.and_comm]
theorem IsB.uniq {n : Nat} {E : Nat → Nat} {k k' : Nat} {cv cv' : Nat → Nat} (h : IsB n E k cv) (h' : IsB n E k' cv') : k = k' ∧ ∀ i, i < k → cv i = cv' i := by
  obtain ⟨pl, ⟨a1, a2, a3, a4⟩, a5⟩ := h
  obtain ⟨pl', ⟨b1, b2, b3, b4⟩, b5⟩ := h'
  have e : k = k' := by
    rcases Nat.lt_trichotomy k k' with q | q | q
    · rw [b4 k a1 q] at a3
      cases a3
    · exact q
    · rw [a4 k' b1 q] at b3
      cases b3
  subst e
  rw [a3] at b3
  cases b3
  exact ⟨rfl, fun i hi => by rw [a5 i hi, b5 i hi]⟩
/-- the largest sets, as the reference finds them -/
def mxl (n : Nat) (E : Nat → Nat) (c : Nat) : Bool := hold n (lvl E 25) c && decide (∀ x, x < 2 ^ n → 1 ≤ x → x ≠ c → x &&& c = c → hold n (lvl E 25) x = false)
def mxq (n : Nat) (E : Nat → Nat) (c : Nat) : Bool := decide (1 ≤ c) && mxl n E c
theorem cst_filter (n : Nat) (E : Nat → Nat) : ∀ m, cst (mxq n E) m = (cst (hq n E) m).filter (mxl n E) := by
  intro m
  induction m with
  | zero => rfl
  | succ m ih =>
    rw [cst, cst, ih]
    by_cases h1 : hq n E m = true
    · rw [if_pos h1, List.filter_append]
      have h2 : mxq n E m = mxl n E m := by
        have : 1 ≤ m := by
          rcases Nat.eq_zero_or_pos m with q | q
          · rw [q, hq_0] at h1; exact absurd h1 (by decide)
          · exact q
        simp [mxq, this]
      rw [h2]
      by_cases h3 : mxl n E m = true
      · rw [if_pos h3]
        simp [h3]
      · rw [if_neg h3]
        simp [h3]
    · rw [if_neg h1, if_neg]
      intro h2
      apply h1
      unfold mxq mxl at h2
      simp only [Bool.and_eq_true] at h2
      unfold hq hp
      simp [h2.1, h2.2.1]
theorem sub_le {x c : Nat} (h : x &&& c = c) : c ≤ x := by rw [← h]; exact Nat.and_le_left
theorem alone_mxl {n : Nat} {E : Nat → Nat} {i : Nat} (h : i < (CS n E).length) : aloneTo (fun j => (CS n E).getD j 0) i (CS n E).length = mxl n E ((CS n E).getD i 0) := by
  have hh : hold n (lvl E 25) ((CS n E).getD i 0) = true := CS_hold (getD_mem h)
  unfold aloneTo mxl
  rw [hh, Bool.true_and]
  apply decide_eq_decide.mpr
  constructor
  · intro q x h1 h2 h3 h4
    cases hb : hold n (lvl E 25) x with
    | false => rfl
    | true =>
      have hx : hq n E x = true := by rw [hq_hold h2]; exact hb
      obtain ⟨r1, r2⟩ := cs_at hx h1
      have hle := sub_le h4
      have hi : i < rk n E x := by
        rcases Nat.lt_trichotomy i (rk n E x) with g | g | g
        · exact g
        · rw [← g] at r2
          omega
        · have := CS_lt_lt g h
          omega
      refine absurd ?_ (q (rk n E x) r1 hi)
      show (CS n E).getD i 0 &&& (CS n E).getD (rk n E x) 0 = _
      rw [r2, Nat.and_comm]
      exact h4
  · intro q k' h1 h2 h3
    have hlt := CS_lt_lt h2 h1
    have hm := CS_hq_mem h1
    have := q ((CS n E).getD k' 0) hm.2.1 hm.2.2 (by omega) (by rw [Nat.and_comm]; exact h3)
    rw [CS_hold (getD_mem h1)] at this
    exact absurd this (by decide)
theorem MX_eq (n : Nat) (E : Nat → Nat) : MX n E = cst (mxq n E) (2 ^ n) := by
  rw [cst_filter]
  have key : ∀ i, i ≤ (CS n E).length → lgt (fun j => (CS n E).getD j 0) (CS n E).length i = ((CS n E).take i).filter (mxl n E) := by
    intro i
    induction i with
    | zero => intro _; rfl
    | succ i ih =>
      intro hi
      rw [lgt, ih (by omega), alone_mxl (by omega)]
      have e : (CS n E).take (i + 1) = (CS n E).take i ++ [(CS n E).getD i 0] := by
        rw [List.take_succ, List.getD_eq_getElem?_getD, List.getElem?_eq_getElem (by omega)]
        rfl
      rw [e, List.filter_append]
      by_cases h : mxl n E ((CS n E).getD i 0) = true
      · rw [if_pos h, List.filter_cons_of_pos h]
        rfl
      · rw [if_neg h, List.filter_cons_of_neg h]
        simp
  unfold MX
  rw [key _ (Nat.le_refl _), List.take_length]
  rfl
/-- the reference's list for isCover -/
def q3 (a b c x : Nat) : Bool := decide (1 ≤ x) && decide (x = a ∨ x = b ∨ x = c)
theorem q3_len (a b c : Nat) : ∀ m, (cst (q3 a b c) m).length ≤ (if a < m then 1 else 0) + (if b < m then 1 else 0) + (if c < m then 1 else 0) := by
  intro m
  induction m with
  | zero => simp [cst]
  | succ m ih =>
    rw [cst]
    split
    · rename_i h
      unfold q3 at h
      rw [Bool.and_eq_true] at h
      have h := of_decide_eq_true h.2
      rw [List.length_append]
      simp only [List.length_cons, List.length_nil]
      repeat' split at ih
      all_goals repeat' split
      all_goals omega
    · repeat' split at ih
      all_goals repeat' split
      all_goals omega
theorem q3_mem {a b c x n : Nat} (ha : a < 2 ^ n) (hb : b < 2 ^ n) (hc : c < 2 ^ n) : x ∈ cst (q3 a b c) (2 ^ n) ↔ 1 ≤ x ∧ (x = a ∨ x = b ∨ x = c) := by
  rw [cst_mem]
  unfold q3
  simp only [Bool.and_eq_true, decide_eq_true_eq]
  constructor
  · rintro ⟨h1, h2, h3⟩
    exact ⟨h2, h3⟩
  · rintro ⟨h2, h3⟩
    exact ⟨by rcases h3 with rfl | rfl | rfl <;> assumption, h2, h3⟩
theorem unf_bit {cv : Nat → Nat} {b : Nat} : ∀ k, (unf cv k).testBit b = true ↔ ∃ i, i < k ∧ (cv i).testBit b = true := by
  intro k
  induction k with
  | zero => simp [unf]
  | succ k ih =>
    rw [unf, Nat.testBit_or, Bool.or_eq_true, ih]
    constructor
    · rintro (⟨i, h1, h2⟩ | h)
      · exact ⟨i, by omega, h2⟩
      · exact ⟨k, by omega, h⟩
    · rintro ⟨i, h1, h2⟩
      by_cases e : i = k
      · rw [e] at h2
        exact Or.inr h2
      · exact Or.inl ⟨i, by omega, h2⟩
theorem hold_0 (n : Nat) (lv : Nat → Nat → Nat) : hold n lv 0 = true := decide_eq_true (fun s _ t _ h => by simp at h)
theorem im_0 (E : Nat → Nat) (a : Nat) : ∀ m, imN E 0 a m = 0 := by
  intro m
  induction m with
  | zero => rfl
  | succ m ih => rw [imN, if_neg (by simp)]; exact ih
theorem covB_3 {n : Nat} {E : Nat → Nat} {a b c : Nat} (ha : a < 2 ^ n) (hb : b < 2 ^ n) (hc : c < 2 ^ n) : covB n E (fun i => (cst (q3 a b c) (2 ^ n)).getD i 0) (cst (q3 a b c) (2 ^ n)).length = isCov n E a b c := by
  have mem := fun x => q3_mem (x := x) ha hb hc
  generalize cst (q3 a b c) (2 ^ n) = S at mem
  have hU : unf (fun i => S.getD i 0) S.length = a ||| b ||| c := by
    apply Nat.eq_of_testBit_eq
    intro i
    have : ((unf (fun i => S.getD i 0) S.length).testBit i = true) ↔ ((a ||| b ||| c).testBit i = true) := by
      rw [unf_bit, Nat.testBit_or, Nat.testBit_or, Bool.or_eq_true, Bool.or_eq_true]
      constructor
      · rintro ⟨j, h1, h2⟩
        have := (mem _).mp (getD_mem h1)
        rcases this.2 with q | q | q <;> rw [q] at h2 <;> simp [h2]
      · intro h
        have key : ∀ x, (x = a ∨ x = b ∨ x = c) → x.testBit i = true → ∃ j, j < S.length ∧ (S.getD j 0).testBit i = true := by
          intro x hx hbit
          have h1 : 1 ≤ x := by
            rcases Nat.eq_zero_or_pos x with q | q
            · rw [q] at hbit; simp at hbit
            · exact q
          obtain ⟨j, hj, e⟩ := idx_of_mem ((mem x).mpr ⟨h1, hx⟩)
          exact ⟨j, hj, by rw [e]; exact hbit⟩
        rcases h with (h | h) | h
        · exact key a (Or.inl rfl) h
        · exact key b (Or.inr (Or.inl rfl)) h
        · exact key c (Or.inr (Or.inr rfl)) h
    cases h1 : (unf (fun i => S.getD i 0) S.length).testBit i <;> cases h2 : (a ||| b ||| c).testBit i <;> simp_all
  have hfw : ∀ x, S ≠ [] → (fwF (fun i => S.getD i 0) x S.length 0 ≠ 0 ↔ in3 x a b c) := by
    intro x hne
    constructor
    · intro h
      obtain ⟨j, h1, h2, h3, h4⟩ := fwF_spec _ _ h
      have := (mem _).mp (getD_mem (show j < S.length by omega))
      rcases this.2 with q | q | q
      · exact Or.inl (by rw [← q]; exact h4)
      · exact Or.inr (Or.inl (by rw [← q]; exact h4))
      · exact Or.inr (Or.inr (by rw [← q]; exact h4))
    · intro h
      have key : ∀ y, (y = a ∨ y = b ∨ y = c) → x &&& y = x → fwF (fun i => S.getD i 0) x S.length 0 ≠ 0 := by
        intro y hy hxy
        rcases Nat.eq_zero_or_pos y with q | q
        · rw [q] at hxy
          have hx0 : x = 0 := by rw [← hxy]; simp
          have hl : 0 < S.length := List.length_pos_iff.mpr hne
          exact fwF_some (j := 0) _ _ (by omega) (by omega) (by rw [hx0]; simp)
        · obtain ⟨j, hj, e⟩ := idx_of_mem ((mem y).mpr ⟨q, hy⟩)
          exact fwF_some (j := j) _ _ (by omega) (by omega) (by rw [e]; exact hxy)
      rcases h with h | h | h
      · exact key a (Or.inl rfl) h
      · exact key b (Or.inr (Or.inl rfl)) h
      · exact key c (Or.inr (Or.inr rfl)) h
  have hcov : (covB n E (fun i => S.getD i 0) S.length = true) ↔ (isCov n E a b c = true) := by
    unfold covB isCov clB
    rw [hU]
    simp only [Bool.and_eq_true, decide_eq_true_eq, clo_iff]
    constructor
    · rintro ⟨⟨h0, h1⟩, h2⟩
      have key : ∀ x, (x = a ∨ x = b ∨ x = c) → hold n (lvl E 25) x = true ∧ ∀ j, j < 2 → in3 (imN E x j n) a b c := by
        intro x hx
        rcases Nat.eq_zero_or_pos x with q | q
        · rw [q]
          exact ⟨hold_0 _ _, fun j _ => by rw [im_0]; exact Or.inl (by simp)⟩
        · obtain ⟨j, hj, e⟩ := idx_of_mem ((mem x).mpr ⟨q, hx⟩)
          have t0 := h0 j hj
          have t1 := h1 j hj
          rw [e] at t0 t1
          exact ⟨t0, fun y hy => (hfw _ (List.ne_nil_of_length_pos (by omega))).mp (t1 y hy)⟩
      have ka := key a (Or.inl rfl)
      have kb := key b (Or.inr (Or.inl rfl))
      have kc := key c (Or.inr (Or.inr rfl))
      exact ⟨⟨⟨⟨ka.1, kb.1⟩, kc.1⟩, h2⟩, fun j hj => ⟨ka.2 j hj, kb.2 j hj, kc.2 j hj⟩⟩
    · rintro ⟨⟨⟨⟨h1, h2⟩, h3⟩, h4⟩, h5⟩
      have key : ∀ i, i < S.length → hold n (lvl E 25) (S.getD i 0) = true ∧ ∀ y, y < 2 → fwF (fun i => S.getD i 0) (imN E (S.getD i 0) y n) S.length 0 ≠ 0 := by
        intro i hi
        have := (mem _).mp (getD_mem hi)
        have hne : S ≠ [] := List.ne_nil_of_length_pos (by omega)
        rcases this.2 with q | q | q
        · rw [q]
          exact ⟨h1, fun y hy => (hfw _ hne).mpr (h5 y hy).1⟩
        · rw [q]
          exact ⟨h2, fun y hy => (hfw _ hne).mpr (h5 y hy).2.1⟩
        · rw [q]
          exact ⟨h3, fun y hy => (hfw _ hne).mpr (h5 y hy).2.2⟩
      exact ⟨⟨fun i hi => (key i hi).1, fun i hi => (key i hi).2⟩, h4⟩
  cases h1 : covB n E (fun i => S.getD i 0) S.length <;> cases h2 : isCov n E a b c <;> simp_all
end
section
/-! X2: within, covers, room, place, advance, best, largest -/
set_option maxRecDepth 100000
section S2
variable {l : Launch} {D : va_G} {h : Nat → Nat} {d : Nat → ClassId} {w : Wd} {n : Nat} {E : Nat → Nat}
set_option maxHeartbeats 1000000 in
theorem m2_within {cv : Nat → Nat} {k c : Nat} (hk5 : k ≤ 5) (hk : w 10 2 = nI k) (hcv : ∀ i, i < k → w 2 i = nI (cv i) ∧ cv i < 32) (hc : c < 32) : Mi l D (K2 h d) yX2_within cX2_within 3 0 (some .boolean) [.ref (h 0), .int (nI c)] w (fun r w' => w = w' ∧ r = bI (decide (fwF cv c k 0 ≠ 0))) := by
  refine Mi.of (by decide) rfl (by simp [Value.category]) (Nat.le_of_ble_eq_true rfl) (fun X R => ?_)
  have L : ∀ m i, i + m = k → fwF cv c m i = fwF cv c k 0 → J X (K2 h d) cX2_within 3 0 2 [.ref (h 0), .int (nI c), .int (nI i)] [] w := by
    intro m
    induction m with
    | zero =>
      intro i hi he
      refine j_il2n (pc := 2) dX2_within_2 ?_
      refine j_al0n (pc := 3) dX2_within_3 ?_
      refine g2_size (pc := 4) dX2_within_4 (by first | assumption | rfl) ?_
      refine j_icmp_geN (pc := 7) 35 dX2_within_7 (by decide) (by omega) (by omega) (fun c1 => ?_) (fun c1 => ?_)
      · refine j_iconst (pc := 35) (nI 0) dX2_within_35 (by decide) ?_
        exact j_zret R dX2_within_36 false (by first | rfl | decide) (⟨rfl, by rw [decide_eq_false (by rw [← he]; exact fun q => q rfl)]⟩)
      · omega
    | succ m ih =>
      intro i hi he
      have hv := hcv i (by omega)
      have hlt : cv i &&& c < 32 := Nat.lt_of_le_of_lt Nat.and_le_right hc
      refine j_il2n (pc := 2) dX2_within_2 ?_
      refine j_al0n (pc := 3) dX2_within_3 ?_
      refine g2_size (pc := 4) dX2_within_4 (by first | assumption | rfl) ?_
      refine j_icmp_geN (pc := 7) 35 dX2_within_7 (by decide) (by omega) (by omega) (fun c1 => ?_) (fun c1 => ?_)
      · omega
      refine j_il2n (pc := 10) dX2_within_10 ?_
      refine j_iconst (pc := 11) (nI 5) dX2_within_11 (by decide) ?_
      refine j_icmp_geN (pc := 12) 35 dX2_within_12 (by decide) (by omega) (by omega) (fun c2 => ?_) (fun c2 => ?_)
      · omega
      refine j_al0n (pc := 15) dX2_within_15 ?_
      refine g2_chosen (pc := 16) dX2_within_16 ?_
      refine j_il2n (pc := 19) dX2_within_19 ?_
      refine al2_chosen (pc := 20) dX2_within_20 (by omega) (hv.1) ?_
      refine j_il1n (pc := 21) dX2_within_21 ?_
      first | with_reducible refine j_iandN (pc := 22) dX2_within_22 ?_ | refine j_iand (pc := 22) dX2_within_22 ?_
      refine j_il1n (pc := 23) dX2_within_23 ?_
      refine j_icmp_neN (pc := 24) 29 dX2_within_24 (by decide) (by omega) (by omega) (fun c3 => ?_) (fun c3 => ?_)
      · refine j_inc2N (pc := 29) dX2_within_29 ?_
        refine j_goto (pc := 32) 2 dX2_within_32 (by decide) ?_
        refine ih (i + 1) (by omega) ?_
        rw [← he, fwF, if_neg (by rw [Nat.and_comm]; exact c3)]
      · refine j_iconst (pc := 27) (nI 1) dX2_within_27 (by decide) ?_
        exact j_zret R dX2_within_28 true (by first | rfl | decide) (⟨rfl, by rw [decide_eq_true (by rw [← he, fwF, if_pos (by rw [Nat.and_comm]; exact c3)]; omega)]⟩)
  refine j_iconst (pc := 0) (nI 0) dX2_within_0 (by decide) ?_
  first | refine j_st2n_s (pc := 1) dX2_within_1 ?_ | refine j_st2n_a (pc := 1) dX2_within_1 ?_
  exact L k 0 (by omega) rfl
set_option maxHeartbeats 1000000 in
theorem m2_covers (ok : Ok1 n E w) (hf : Fit n E w) {cv : Nat → Nat} {k : Nat} (hk5 : k ≤ 5) (hk : w 10 2 = nI k) (hcv : ∀ i, i < k → w 2 i = nI (cv i) ∧ cv i < 2 ^ n) : Mi l D (K2 h d) yX2_covers cX2_covers 5 2 (some .boolean) [.ref (h 0)] w (fun r w' => w = w' ∧ r = bI (covB n E cv k)) := by
  have ok' := ok
  obtain ⟨h2, h5, hE3, hE, hn⟩ := ok
  have hp := p2_le h5
  have hp4 := p2_ge h2
  have hult : ∀ i, i ≤ k → unf cv i < 2 ^ n := by
    intro i
    induction i with
    | zero => intro _; exact Nat.two_pow_pos n
    | succ i ih => intro hi; exact Nat.or_lt_two_pow (ih (by omega)) (hcv i (by omega)).2
  refine Mi.of (by decide) rfl (by simp [Value.category]) (Nat.le_of_ble_eq_true rfl) (fun X R => ?_)
  have out : ∀ m i, i + m = k → (∀ j, j < i → hold n (lvl E 25) (cv j) = true) → (∀ j, j < i → ∀ a, a < 2 → fwF cv (imN E (cv j) a n) k 0 ≠ 0) → J X (K2 h d) cX2_covers 5 2 4 [.ref (h 0), .int (nI (unf cv i)), .int (nI i)] [] w := by
    intro m
    induction m with
    | zero =>
      intro i hi f1 f2
      obtain rfl : i = k := by omega
      have hu := hult i (Nat.le_refl _)
      have e1 : covB n E cv i = decide (unf cv i = 2 ^ n - 1) := by
        unfold covB
        rw [decide_eq_true f1, clo_iff.mpr f2]
        rfl
      refine j_il2n (pc := 4) dX2_covers_4 ?_
      refine j_al0n (pc := 5) dX2_covers_5 ?_
      refine g2_size (pc := 6) dX2_covers_6 (by first | assumption | rfl) ?_
      refine j_icmp_geN (pc := 9) 84 dX2_covers_9 (by decide) (by omega) (by omega) (fun c1 => ?_) (fun c1 => ?_)
      · refine j_il1n (pc := 84) dX2_covers_84 ?_
        refine j_iconst (pc := 85) (nI 1) dX2_covers_85 (by decide) ?_
        refine j_al0n (pc := 86) dX2_covers_86 ?_
        refine g2_n (pc := 87) dX2_covers_87 (by first | assumption | rfl) ?_
        refine j_ishl1 (pc := 90) dX2_covers_90 (by omega) ?_
        refine j_iconst (pc := 91) (nI 1) dX2_covers_91 (by decide) ?_
        first | with_reducible refine j_isubN (pc := 92) dX2_covers_92 (by omega) ?_ | refine j_isub (pc := 92) dX2_covers_92 ?_
        refine j_icmp_neN (pc := 93) 100 dX2_covers_93 (by decide) (by omega) (by omega) (fun c2 => ?_) (fun c2 => ?_)
        · refine j_iconst (pc := 100) (nI 0) dX2_covers_100 (by decide) ?_
          exact j_zret R dX2_covers_101 false (by first | rfl | decide) (⟨rfl, by rw [e1, decide_eq_false c2]⟩)
        · refine j_iconst (pc := 96) (nI 1) dX2_covers_96 (by decide) ?_
          refine j_goto (pc := 97) 101 dX2_covers_97 (by decide) ?_
          exact j_zret R dX2_covers_101 true (by first | rfl | decide) (⟨rfl, by rw [e1, decide_eq_true c2]⟩)
      · omega
    | succ m ih =>
      intro i hi f1 f2
      have hv := hcv i (by omega)
      refine j_il2n (pc := 4) dX2_covers_4 ?_
      refine j_al0n (pc := 5) dX2_covers_5 ?_
      refine g2_size (pc := 6) dX2_covers_6 (by first | assumption | rfl) ?_
      refine j_icmp_geN (pc := 9) 84 dX2_covers_9 (by decide) (by omega) (by omega) (fun c1 => ?_) (fun c1 => ?_)
      · omega
      refine j_il2n (pc := 12) dX2_covers_12 ?_
      refine j_iconst (pc := 13) (nI 5) dX2_covers_13 (by decide) ?_
      refine j_icmp_geN (pc := 14) 84 dX2_covers_14 (by decide) (by omega) (by omega) (fun c2 => ?_) (fun c2 => ?_)
      · omega
      refine j_al0n (pc := 17) dX2_covers_17 ?_
      refine j_al0n (pc := 18) dX2_covers_18 ?_
      refine g2_chosen (pc := 19) dX2_covers_19 ?_
      refine j_il2n (pc := 22) dX2_covers_22 ?_
      refine al2_chosen (pc := 23) dX2_covers_23 (by omega) (hv.1) ?_
      refine cl2_agreeing (pc := 24) dX2_covers_24 (m2_agreeing ok' hf (by omega)) (fun r w' e => ?_)
      obtain ⟨rfl, rfl⟩ := e
      refine j_if_neB (pc := 27) 32 dX2_covers_27 (by decide) (fun c3 => ?_) (fun c3 => ?_)
      rotate_left
      · have e0 : covB n E cv k = false := by
          unfold covB
          rw [decide_eq_false (fun q => by rw [q i (by omega)] at c3; exact absurd c3 (by decide))]
          rfl
        refine j_iconst (pc := 30) (nI 0) dX2_covers_30 (by decide) ?_
        exact j_zret R dX2_covers_31 false (by first | rfl | decide) (⟨rfl, by rw [e0]⟩)
      refine j_il1n (pc := 32) dX2_covers_32 ?_
      refine j_al0n (pc := 33) dX2_covers_33 ?_
      refine g2_chosen (pc := 34) dX2_covers_34 ?_
      refine j_il2n (pc := 37) dX2_covers_37 ?_
      refine al2_chosen (pc := 38) dX2_covers_38 (by omega) (hv.1) ?_
      first | with_reducible refine j_iorN (pc := 39) dX2_covers_39 ?_ | refine j_ior (pc := 39) dX2_covers_39 ?_
      first | refine j_st1n_s (pc := 40) dX2_covers_40 ?_ | refine j_st1n_a (pc := 40) dX2_covers_40 ?_
      refine j_iconst (pc := 41) (nI 0) dX2_covers_41 (by decide) ?_
      first | refine j_st3n_s (pc := 42) dX2_covers_42 ?_ | refine j_st3n_a (pc := 42) dX2_covers_42 ?_
      rw [show unf cv i ||| cv i = unf cv (i + 1) from rfl]
      have inn : ∀ m2 a, a + m2 = 2 → (∀ x, x < a → fwF cv (imN E (cv i) x n) k 0 ≠ 0) → J X (K2 h d) cX2_covers 5 2 43 [.ref (h 0), .int (nI (unf cv (i + 1))), .int (nI i), .int (nI a)] [] w := by
        intro m2
        induction m2 with
        | zero =>
          intro a ha g1
          refine j_il3n (pc := 43) dX2_covers_43 ?_
          refine j_iconst (pc := 44) (nI 2) dX2_covers_44 (by decide) ?_
          refine j_icmp_geN (pc := 45) 78 dX2_covers_45 (by decide) (by omega) (by omega) (fun c4 => ?_) (fun c4 => ?_)
          · refine j_inc2N (pc := 78) dX2_covers_78 ?_
            refine j_goto (pc := 81) 4 dX2_covers_81 (by decide) ?_
            refine j_wk (ih (i + 1) (by omega) (fun j hj => ?_) (fun j hj => ?_)) ⟨_, rfl⟩
            · by_cases e : j = i
              · rw [e]
                exact c3
              · exact f1 j (by omega)
            · by_cases e : j = i
              · rw [e]
                exact fun x hx => g1 x (by omega)
              · exact f2 j (by omega)
          · omega
        | succ m2 ih2 =>
          intro a ha g1
          have hi2 := imN_lt hE3 (cv i) a n
          refine j_il3n (pc := 43) dX2_covers_43 ?_
          refine j_iconst (pc := 44) (nI 2) dX2_covers_44 (by decide) ?_
          refine j_icmp_geN (pc := 45) 78 dX2_covers_45 (by decide) (by omega) (by omega) (fun c4 => ?_) (fun c4 => ?_)
          · omega
          refine j_al0n (pc := 48) dX2_covers_48 ?_
          refine j_al0n (pc := 49) dX2_covers_49 ?_
          refine g2_chosen (pc := 50) dX2_covers_50 ?_
          refine j_il2n (pc := 53) dX2_covers_53 ?_
          refine al2_chosen (pc := 54) dX2_covers_54 (by omega) (hv.1) ?_
          refine j_il3n (pc := 55) dX2_covers_55 ?_
          refine cl2_image (pc := 56) dX2_covers_56 (m2_image ok' (by omega) (by omega)) (fun r w' e => ?_)
          obtain ⟨rfl, rfl⟩ := e
          first | refine j_st4_s (pc := 59) dX2_covers_59 ?_ | refine j_st4_a (pc := 59) dX2_covers_59 ?_
          refine j_al0n (pc := 61) dX2_covers_61 ?_
          refine j_il4 (pc := 62) dX2_covers_62 ?_
          refine cl2_within (pc := 64) dX2_covers_64 (m2_within (cv := cv) hk5 hk (fun i hi => ⟨(hcv i hi).1, by have := (hcv i hi).2; omega⟩) (by omega)) (fun r w' e => ?_)
          obtain ⟨rfl, rfl⟩ := e
          refine j_if_neB (pc := 67) 72 dX2_covers_67 (by decide) (fun c5 => ?_) (fun c5 => ?_)
          · have c5 := of_decide_eq_true c5
            refine j_inc3N (pc := 72) dX2_covers_72 ?_
            refine j_goto (pc := 75) 43 dX2_covers_75 (by decide) ?_
            refine j_wk (ih2 (a + 1) (by omega) (fun x hx => ?_)) ⟨_, rfl⟩
            by_cases e : x = a
            · rw [e]
              exact c5
            · exact g1 x (by omega)
          · have c5 := of_decide_eq_false c5
            have e0 : covB n E cv k = false := by
              have : clo E n cv k = false := by
                cases hb : clo E n cv k with
                | false => rfl
                | true => exact absurd (clo_iff.mp hb i (by omega) a (by omega)) c5
              unfold covB
              rw [this]
              simp
            refine j_iconst (pc := 70) (nI 0) dX2_covers_70 (by decide) ?_
            exact j_zret R dX2_covers_71 false (by first | rfl | decide) (⟨rfl, by rw [e0]⟩)
      exact inn 2 0 (by omega) (fun x hx => by omega)
  refine j_iconst (pc := 0) (nI 0) dX2_covers_0 (by decide) ?_
  first | refine j_st1n_s (pc := 1) dX2_covers_1 ?_ | refine j_st1n_a (pc := 1) dX2_covers_1 ?_
  refine j_iconst (pc := 2) (nI 0) dX2_covers_2 (by decide) ?_
  first | refine j_st2n_s (pc := 3) dX2_covers_3 ?_ | refine j_st2n_a (pc := 3) dX2_covers_3 ?_
  exact out k 0 (by omega) (fun j hj => by omega) (fun j hj => by omega)
set_option maxHeartbeats 1000000 in
theorem m2_room (ok : Ok1 n E w) (hf : Fit n E w) {c many : Nat} (hc : c < 2 ^ n) (hm : many < 100) : Mi l D (K2 h d) yX2_room cX2_room 5 2 (some .boolean) [.ref (h 0), .int (nI c), .int (nI many)] w (fun r w' => w = w' ∧ r = bI (decide (many + rk n E (c + 1) ≤ (CS n E).length))) := by
  have ok' := ok
  obtain ⟨h2, h5, hE3, hE, hn⟩ := ok
  have hp := p2_le h5
  have hlen := CS_len (n := n) (E := E) h5
  refine Mi.of (by decide) rfl (by simp [Value.category]) (Nat.le_of_ble_eq_true rfl) (fun X R => ?_)
  have L : ∀ m x, x + m = 2 ^ n → c + 1 ≤ x → J X (K2 h d) cX2_room 5 2 7 [.ref (h 0), .int (nI c), .int (nI many), .int (nI (rk n E x - rk n E (c + 1))), .int (nI x)] [] w := by
    intro m
    induction m with
    | zero =>
      intro x hx hcx
      obtain rfl : x = 2 ^ n := by omega
      have hmono := rk_mono (n := n) (E := E) hcx
      rw [rk_all] at hmono ⊢
      refine j_il4 (pc := 7) dX2_room_7 ?_
      refine j_iconst (pc := 9) (nI 1) dX2_room_9 (by decide) ?_
      refine j_al0n (pc := 10) dX2_room_10 ?_
      refine g2_n (pc := 11) dX2_room_11 (by first | assumption | rfl) ?_
      refine j_ishl1 (pc := 14) dX2_room_14 (by omega) ?_
      refine j_icmp_geN (pc := 15) 36 dX2_room_15 (by decide) (by omega) (by omega) (fun c1 => ?_) (fun c1 => ?_)
      · refine j_il3n (pc := 36) dX2_room_36 ?_
        refine j_il2n (pc := 37) dX2_room_37 ?_
        refine j_icmp_ltN (pc := 38) 45 dX2_room_38 (by decide) (by omega) (by omega) (fun c2 => ?_) (fun c2 => ?_)
        · refine j_iconst (pc := 45) (nI 0) dX2_room_45 (by decide) ?_
          exact j_zret R dX2_room_46 false (by first | rfl | decide) (⟨rfl, by rw [decide_eq_false (by omega)]⟩)
        · refine j_iconst (pc := 41) (nI 1) dX2_room_41 (by decide) ?_
          refine j_goto (pc := 42) 46 dX2_room_42 (by decide) ?_
          exact j_zret R dX2_room_46 true (by first | rfl | decide) (⟨rfl, by rw [decide_eq_true (by omega)]⟩)
      · omega
    | succ m ih =>
      intro x hx hcx
      have hmono := rk_mono (n := n) (E := E) hcx
      refine j_il4 (pc := 7) dX2_room_7 ?_
      refine j_iconst (pc := 9) (nI 1) dX2_room_9 (by decide) ?_
      refine j_al0n (pc := 10) dX2_room_10 ?_
      refine g2_n (pc := 11) dX2_room_11 (by first | assumption | rfl) ?_
      refine j_ishl1 (pc := 14) dX2_room_14 (by omega) ?_
      refine j_icmp_geN (pc := 15) 36 dX2_room_15 (by decide) (by omega) (by omega) (fun c1 => ?_) (fun c1 => ?_)
      · omega
      refine j_al0n (pc := 18) dX2_room_18 ?_
      refine j_il4 (pc := 19) dX2_room_19 ?_
      refine cl2_agreeing (pc := 21) dX2_room_21 (m2_agreeing ok' hf (by omega)) (fun r w' e => ?_)
      obtain ⟨rfl, rfl⟩ := e
      rw [← hq_hold (by omega)]
      refine j_if_eqB (pc := 24) 30 dX2_room_24 (by decide) (fun c2 => ?_) (fun c2 => ?_)
      · refine j_inc4N (pc := 30) dX2_room_30 ?_
        refine j_goto (pc := 33) 7 dX2_room_33 (by decide) ?_
        rw [← rk_f c2]
        exact ih (x + 1) (by omega) (by omega)
      · refine j_inc3N (pc := 27) dX2_room_27 ?_
        refine j_inc4N (pc := 30) dX2_room_30 ?_
        refine j_goto (pc := 33) 7 dX2_room_33 (by decide) ?_
        rw [show rk n E x - rk n E (c + 1) + 1 = rk n E (x + 1) - rk n E (c + 1) by rw [rk_t c2]; omega]
        exact ih (x + 1) (by omega) (by omega)
  refine j_iconst (pc := 0) (nI 0) dX2_room_0 (by decide) ?_
  first | refine j_st3n_s (pc := 1) dX2_room_1 ?_ | refine j_st3n_a (pc := 1) dX2_room_1 ?_
  refine j_il1n (pc := 2) dX2_room_2 ?_
  refine j_iconst (pc := 3) (nI 1) dX2_room_3 (by decide) ?_
  first | with_reducible refine j_iaddN (pc := 4) dX2_room_4 ?_ | refine j_iadd (pc := 4) dX2_room_4 ?_
  first | refine j_st4_s (pc := 5) dX2_room_5 ?_ | refine j_st4_a (pc := 5) dX2_room_5 ?_
  have := L (2 ^ n - (c + 1)) (c + 1) (by omega) (Nat.le_refl _)
  rw [Nat.sub_self] at this
  exact this
set_option maxHeartbeats 1000000 in
theorem m2_place (ok : Ok1 n E w) (hf : Fit n E w) {i c k : Nat} (hk5 : k ≤ 5) (hk : w 10 2 = nI k) (hi : i ≤ k) (hc1 : 1 ≤ c) (hc : c ≤ 2 ^ n) : Mv l D (K2 h d) yX2_place cX2_place 5 2 [.ref (h 0), .int (nI i), .int (nI c)] w (fun w' => (∀ q, q ≠ 2 → w' q = w q) ∧ (∀ j, j < i → w' 2 j = w 2 j) ∧ ∀ j, i ≤ j → j < k → rk n E c + (j - i) < (CS n E).length → w' 2 j = nI ((CS n E).getD (rk n E c + (j - i)) 0)) := by
  have ok' := ok
  obtain ⟨h2, h5, hE3, hE, hn⟩ := ok
  have hp := p2_le h5
  refine Mv.of (by decide) rfl (by simp [Value.category]) (Nat.le_of_ble_eq_true rfl) (fun X R => ?_)
  have L : ∀ m x pos w1, x + m = 2 ^ n → c ≤ x → i ≤ pos → pos ≤ k → (pos < k → pos = i + (rk n E x - rk n E c)) → (∀ q, q ≠ 2 → w1 q = w q) → (∀ j, j < i → w1 2 j = w 2 j) → (∀ j, i ≤ j → j < pos → w1 2 j = nI ((CS n E).getD (rk n E c + (j - i)) 0)) → J X (K2 h d) cX2_place 5 2 5 [.ref (h 0), .int (nI i), .int (nI c), .int (nI pos), .int (nI x)] [] w1 := by
    intro m
    induction m with
    | zero =>
      intro x pos w1 hx hcx p1 p2 p3 f1 f2 f3
      obtain rfl : x = 2 ^ n := by omega
      have hn2 : w1 10 0 = nI n := by rw [f1 10 (by decide)]; exact hn
      rw [rk_all] at p3
      refine j_il4 (pc := 5) dX2_place_5 ?_
      refine j_iconst (pc := 7) (nI 1) dX2_place_7 (by decide) ?_
      refine j_al0n (pc := 8) dX2_place_8 ?_
      refine g2_n (pc := 9) dX2_place_9 (by first | assumption | rfl) ?_
      refine j_ishl1 (pc := 12) dX2_place_12 (by omega) ?_
      refine j_icmp_geN (pc := 13) 55 dX2_place_13 (by decide) (by omega) (by omega) (fun c1 => ?_) (fun c1 => ?_)
      · refine j_vret R dX2_place_55 ⟨f1, f2, fun j j1 j2 j3 => f3 j j1 ?_⟩
        rcases Nat.lt_or_ge pos k with q | q
        · have := p3 q
          omega
        · omega
      · omega
    | succ m ih =>
      intro x pos w1 hx hcx p1 p2 p3 f1 f2 f3
      have hn2 : w1 10 0 = nI n := by rw [f1 10 (by decide)]; exact hn
      have hk2 : w1 10 2 = nI k := by rw [f1 10 (by decide)]; exact hk
      have ok2 : Ok1 n E w1 := ok'.fr (f1 0 (by decide)) (by rw [f1 10 (by decide)])
      have hf2 : Fit n E w1 := fun s t hs ht => by rw [f1 1 (by decide)]; exact hf s t hs ht
      have hmono := rk_mono (n := n) (E := E) hcx
      have nxt : ∀ pos' w2, i ≤ pos' → pos' ≤ k → (pos' < k → pos' = i + (rk n E (x + 1) - rk n E c)) → (∀ q, q ≠ 2 → w2 q = w q) → (∀ j, j < i → w2 2 j = w 2 j) → (∀ j, i ≤ j → j < pos' → w2 2 j = nI ((CS n E).getD (rk n E c + (j - i)) 0)) → J X (K2 h d) cX2_place 5 2 49 [.ref (h 0), .int (nI i), .int (nI c), .int (nI pos'), .int (nI x)] [] w2 := by
        intro pos' w2 q1 q2 q3 g1 g2 g3
        refine j_inc4N (pc := 49) dX2_place_49 ?_
        refine j_goto (pc := 52) 5 dX2_place_52 (by decide) ?_
        exact ih (x + 1) pos' w2 (by omega) (by omega) q1 q2 q3 g1 g2 g3
      refine j_il4 (pc := 5) dX2_place_5 ?_
      refine j_iconst (pc := 7) (nI 1) dX2_place_7 (by decide) ?_
      refine j_al0n (pc := 8) dX2_place_8 ?_
      refine g2_n (pc := 9) dX2_place_9 (by first | assumption | rfl) ?_
      refine j_ishl1 (pc := 12) dX2_place_12 (by omega) ?_
      refine j_icmp_geN (pc := 13) 55 dX2_place_13 (by decide) (by omega) (by omega) (fun c1 => ?_) (fun c1 => ?_)
      · omega
      refine j_il3n (pc := 16) dX2_place_16 ?_
      refine j_al0n (pc := 17) dX2_place_17 ?_
      refine g2_size (pc := 18) dX2_place_18 (by first | assumption | rfl) ?_
      refine j_icmp_geN (pc := 21) 49 dX2_place_21 (by decide) (by omega) (by omega) (fun c2 => ?_) (fun c2 => ?_)
      · exact nxt pos w1 p1 p2 (fun q => by omega) f1 f2 f3
      refine j_il3n (pc := 24) dX2_place_24 ?_
      refine j_iconst (pc := 25) (nI 5) dX2_place_25 (by decide) ?_
      refine j_icmp_geN (pc := 26) 49 dX2_place_26 (by decide) (by omega) (by omega) (fun c3 => ?_) (fun c3 => ?_)
      · omega
      refine j_al0n (pc := 29) dX2_place_29 ?_
      refine j_il4 (pc := 30) dX2_place_30 ?_
      refine cl2_agreeing (pc := 32) dX2_place_32 (m2_agreeing ok2 hf2 (by omega)) (fun r w' e => ?_)
      obtain ⟨rfl, rfl⟩ := e
      rw [← hq_hold (by omega)]
      have hpos := p3 c2
      refine j_if_eqB (pc := 35) 49 dX2_place_35 (by decide) (fun c4 => ?_) (fun c4 => ?_)
      · exact nxt pos w1 p1 p2 (fun q => by rw [rk_f c4]; exact hpos) f1 f2 f3
      · obtain ⟨r1, r2⟩ := cs_at c4 (by omega)
        refine j_al0n (pc := 38) dX2_place_38 ?_
        refine g2_chosen (pc := 39) dX2_place_39 ?_
        refine j_il3n (pc := 42) dX2_place_42 ?_
        refine j_il4 (pc := 43) dX2_place_43 ?_
        refine as2_chosen (pc := 45) dX2_place_45 (by omega) ?_
        refine j_inc3N (pc := 46) dX2_place_46 ?_
        refine nxt (pos + 1) _ (by omega) (by omega) (fun q => by rw [rk_t c4]; omega) (fun q hq => by rw [wset_i _ _ hq]; exact f1 q hq) (fun j hj => by rw [wset_k _ _ (by omega)]; exact f2 j hj) (fun j j1 j2 => ?_)
        by_cases e : j = pos
        · rw [e, wset_s, show rk n E c + (pos - i) = rk n E x by omega, r2]
        · rw [wset_k _ _ e]
          exact f3 j j1 (by omega)
  refine j_il1n (pc := 0) dX2_place_0 ?_
  first | refine j_st3n_s (pc := 1) dX2_place_1 ?_ | refine j_st3n_a (pc := 1) dX2_place_1 ?_
  refine j_il2n (pc := 2) dX2_place_2 ?_
  first | refine j_st4_s (pc := 3) dX2_place_3 ?_ | refine j_st4_a (pc := 3) dX2_place_3 ?_
  exact L (2 ^ n - c) c i w (by omega) (Nat.le_refl _) (Nat.le_refl _) hi (fun _ => by omega) (fun _ _ => rfl) (fun _ _ => rfl) (fun j j1 j2 => by omega)
set_option maxHeartbeats 4000000 in
theorem m2_advance (ok : Ok1 n E w) (hf : Fit n E w) {p : Nat → Nat} {k : Nat} (hk1 : 1 ≤ k) (hk5 : k ≤ 5) (hkN : k ≤ (CS n E).length) (hk : w 10 2 = nI k) (hpb : ∀ i, i < k → p i ≤ (CS n E).length - k + i) (hw : ∀ i, i < k → w 2 i = nI ((CS n E).getD (p i) 0)) : Mi l D (K2 h d) yX2_advance cX2_advance 4 3 (some .boolean) [.ref (h 0)] w (fun r w' => (∀ q, q ≠ 2 → w' q = w q) ∧ ((r = bI false ∧ ∀ j, j < k → p j = (CS n E).length - k + j) ∨ (r = bI true ∧ ∃ i, i < k ∧ (∀ j, i < j → j < k → p j = (CS n E).length - k + j) ∧ p i < (CS n E).length - k + i ∧ ∀ j, j < k → w' 2 j = nI ((CS n E).getD (pfill p i (p i + 1) j) 0)))) := by
  have ok' := ok
  obtain ⟨h2, h5, hE3, hE, hn⟩ := ok
  have hp2 := p2_le h5
  have hlen := CS_len (n := n) (E := E) h5
  refine Mi.of (by decide) rfl (by simp [Value.category]) (Nat.le_of_ble_eq_true rfl) (fun X R => ?_)
  have main : ∀ e, e ≤ k → (∀ j, e ≤ j → j < k → p j = (CS n E).length - k + j) → J X (K2 h d) cX2_advance 4 3 7 [.ref (h 0), .int (no e)] [] w := by
    intro e
    induction e with
    | zero =>
      intro _ hmax
      refine j_il1n (pc := 7) dX2_advance_7 ?_
      refine j_if_lt (pc := 8) 99 dX2_advance_8 (by decide) (fun c1 => ?_) (fun c1 => ?_)
      · refine j_iconst (pc := 99) (nI 0) dX2_advance_99 (by decide) ?_
        exact j_zret R dX2_advance_100 false (by first | rfl | decide) (⟨fun _ _ => rfl, Or.inl ⟨rfl, fun j hj => hmax j (by omega) hj⟩⟩)
      · exact absurd ((no_lt0 (by decide)).mpr rfl) c1
    | succ i ih =>
      intro hik hmax
      have hpi := hpb i (by omega)
      have hpN : p i < (CS n E).length := by omega
      have hci := CS_hq_mem hpN
      -- the upper end, as a number
      have h40 : ∀ A, A ≤ 2 ^ n → (CS n E).getD (p i) 0 < A → (p i < (CS n E).length - k + i → (CS n E).getD (p i + 1) 0 < A) → (p i = (CS n E).length - k + i → p i + 1 < (CS n E).length → A ≤ (CS n E).getD (p i + 1) 0) → J X (K2 h d) cX2_advance 4 3 40 [.ref (h 0), .int (nI i)] [.int (nI A)] w := by
        intro A hA hA1 hA2 hA3
        have loop : ∀ T, T ≤ A → (∀ c', (CS n E).getD (p i) 0 < c' → c' < T → hq n E c' = false) → J X (K2 h d) cX2_advance 4 3 50 [.ref (h 0), .int (nI i), .int (nI A), .int (nI T)] [] w → ∀ m c, c + m = T → (CS n E).getD (p i) 0 < c → J X (K2 h d) cX2_advance 4 3 50 [.ref (h 0), .int (nI i), .int (nI A), .int (nI c)] [] w := by
          intro T hT hno hJ m
          induction m with
          | zero =>
            intro c hc _
            obtain rfl : c = T := by omega
            exact hJ
          | succ m ihm =>
            intro c hc hgt
            refine j_il3n (pc := 50) dX2_advance_50 ?_
            refine j_il2n (pc := 51) dX2_advance_51 ?_
            refine j_icmp_geN (pc := 52) 93 dX2_advance_52 (by decide) (by omega) (by omega) (fun c1 => ?_) (fun c1 => ?_)
            · omega
            refine j_al0n (pc := 55) dX2_advance_55 ?_
            refine j_il3n (pc := 56) dX2_advance_56 ?_
            refine cl2_agreeing (pc := 57) dX2_advance_57 (m2_agreeing ok' hf (by omega)) (fun r w' e => ?_)
            obtain ⟨rfl, rfl⟩ := e
            rw [← hq_hold (by omega)]
            refine j_if_eqB (pc := 60) 87 dX2_advance_60 (by decide) (fun c2 => ?_) (fun c2 => ?_)
            · refine j_inc3N (pc := 87) dX2_advance_87 ?_
              refine j_goto (pc := 90) 50 dX2_advance_90 (by decide) ?_
              exact ihm (c + 1) (by omega) (by omega)
            · rw [hno c hgt (by omega)] at c2
              exact absurd c2 (by decide)
        first | refine j_st2n_s (pc := 40) dX2_advance_40 ?_ | refine j_st2n_a (pc := 40) dX2_advance_40 ?_
        refine j_al0n (pc := 41) dX2_advance_41 ?_
        refine g2_chosen (pc := 42) dX2_advance_42 ?_
        refine j_il1n (pc := 45) dX2_advance_45 ?_
        refine al2_chosen (pc := 46) dX2_advance_46 (by omega) (hw i (by omega)) ?_
        refine j_iconst (pc := 47) (nI 1) dX2_advance_47 (by decide) ?_
        first | with_reducible refine j_iaddN (pc := 48) dX2_advance_48 ?_ | refine j_iadd (pc := 48) dX2_advance_48 ?_
        first | refine j_st3n_s (pc := 49) dX2_advance_49 ?_ | refine j_st3n_a (pc := 49) dX2_advance_49 ?_
        rcases Nat.lt_or_ge (p i) ((CS n E).length - k + i) with hlt | hge
        · -- there is a next one
          have hq1 : p i + 1 < (CS n E).length := by omega
          have hcn := CS_hq_mem hq1
          have hAc := hA2 hlt
          have hlt1 := CS_lt_lt (n := n) (E := E) (show p i < p i + 1 by omega) hq1
          refine loop ((CS n E).getD (p i + 1) 0) (by omega) (fun c' q1 q2 => hq_between hpN q1 (by omega) (fun _ => q2)) ?_ ((CS n E).getD (p i + 1) 0 - ((CS n E).getD (p i) 0 + 1)) ((CS n E).getD (p i) 0 + 1) (by omega) (by omega)
          refine j_il3n (pc := 50) dX2_advance_50 ?_
          refine j_il2n (pc := 51) dX2_advance_51 ?_
          refine j_icmp_geN (pc := 52) 93 dX2_advance_52 (by decide) (by omega) (by omega) (fun c1 => ?_) (fun c1 => ?_)
          · omega
          refine j_al0n (pc := 55) dX2_advance_55 ?_
          refine j_il3n (pc := 56) dX2_advance_56 ?_
          refine cl2_agreeing (pc := 57) dX2_advance_57 (m2_agreeing ok' hf (by omega)) (fun r w' e => ?_)
          obtain ⟨rfl, rfl⟩ := e
          rw [← hq_hold hcn.2.2, hcn.1]
          refine j_if_eqB (pc := 60) 87 dX2_advance_60 (by decide) (fun c2 => ?_) (fun c2 => ?_)
          · exact absurd c2 (by decide)
          refine j_al0n (pc := 63) dX2_advance_63 ?_
          refine j_il3n (pc := 64) dX2_advance_64 ?_
          refine j_al0n (pc := 65) dX2_advance_65 ?_
          refine g2_size (pc := 66) dX2_advance_66 (by first | assumption | rfl) ?_
          refine j_iconst (pc := 69) (nI 1) dX2_advance_69 (by decide) ?_
          first | with_reducible refine j_isubN (pc := 70) dX2_advance_70 (by omega) ?_ | refine j_isub (pc := 70) dX2_advance_70 ?_
          refine j_il1n (pc := 71) dX2_advance_71 ?_
          first | with_reducible refine j_isubN (pc := 72) dX2_advance_72 (by omega) ?_ | refine j_isub (pc := 72) dX2_advance_72 ?_
          refine cl2_room (pc := 73) dX2_advance_73 (m2_room ok' hf (c := (CS n E).getD (p i + 1) 0) (many := k - 1 - i) (by omega) (by omega)) (fun r w' e => ?_)
          obtain ⟨rfl, rfl⟩ := e
          rw [rk_of1 hq1, decide_eq_true (show k - 1 - i + (p i + 1 + 1) ≤ (CS n E).length by omega)]
          refine j_if_eqB (pc := 76) 87 dX2_advance_76 (by decide) (fun c3 => ?_) (fun c3 => ?_)
          · exact absurd c3 (by decide)
          refine j_al0n (pc := 79) dX2_advance_79 ?_
          refine j_il1n (pc := 80) dX2_advance_80 ?_
          refine j_il3n (pc := 81) dX2_advance_81 ?_
          refine cl2_place (pc := 82) dX2_advance_82 (m2_place ok' hf (i := i) (c := (CS n E).getD (p i + 1) 0) (k := k) hk5 hk (by omega) hcn.2.2 (by omega)) (fun w2 e => ?_)
          obtain ⟨g1, g2, g3⟩ := e
          rw [rk_of hq1] at g3
          refine j_iconst (pc := 85) (nI 1) dX2_advance_85 (by decide) ?_
          refine j_zret R dX2_advance_86 true (by decide) ⟨g1, Or.inr ⟨rfl, i, by omega, fun j j1 j2 => hmax j (by omega) j2, hlt, fun j hj => ?_⟩⟩
          unfold pfill
          by_cases e : j < i
          · rw [if_pos e, g2 j e]
            exact hw j hj
          · rw [if_neg e]
            exact g3 j (by omega) hj (by omega)
        · -- this place is at its end
          have hpe : p i = (CS n E).length - k + i := by omega
          refine loop A (Nat.le_refl _) (fun c' q1 q2 => hq_between hpN q1 (by omega) (fun q3 => by have := hA3 hpe q3; omega)) ?_ (A - ((CS n E).getD (p i) 0 + 1)) ((CS n E).getD (p i) 0 + 1) (by omega) (by omega)
          refine j_il3n (pc := 50) dX2_advance_50 ?_
          refine j_il2n (pc := 51) dX2_advance_51 ?_
          refine j_icmp_geN (pc := 52) 93 dX2_advance_52 (by decide) (by omega) (by omega) (fun c1 => ?_) (fun c1 => ?_)
          · refine j_inc1 (pc := 93) (no i) dX2_advance_93 (no_dec i) ?_
            refine j_goto (pc := 96) 7 dX2_advance_96 (by decide) ?_
            refine j_wk (ih (by omega) (fun j j1 j2 => ?_)) ⟨_, rfl⟩
            by_cases e : j = i
            · rw [e]
              exact hpe
            · exact hmax j (by omega) j2
          · omega
      refine j_il1n (pc := 7) dX2_advance_7 ?_
      refine j_if_lt (pc := 8) 99 dX2_advance_8 (by decide) (fun c1 => ?_) (fun c1 => ?_)
      · rw [no_lt0 (by omega)] at c1
        omega
      simp only [no]
      refine j_il1n (pc := 11) dX2_advance_11 ?_
      refine j_al0n (pc := 12) dX2_advance_12 ?_
      refine g2_size (pc := 13) dX2_advance_13 (by first | assumption | rfl) ?_
      refine j_iconst (pc := 16) (nI 1) dX2_advance_16 (by decide) ?_
      first | with_reducible refine j_isubN (pc := 17) dX2_advance_17 (by omega) ?_ | refine j_isub (pc := 17) dX2_advance_17 ?_
      refine j_icmp_geN (pc := 18) 34 dX2_advance_18 (by decide) (by omega) (by omega) (fun c2 => ?_) (fun c2 => ?_)
      · refine j_iconst (pc := 34) (nI 1) dX2_advance_34 (by decide) ?_
        refine j_al0n (pc := 35) dX2_advance_35 ?_
        refine g2_n (pc := 36) dX2_advance_36 (by first | assumption | rfl) ?_
        refine j_ishl1 (pc := 39) dX2_advance_39 (by omega) ?_
        refine h40 (2 ^ n) (Nat.le_refl _) (by omega) (fun q => (CS_hq_mem (by omega)).2.1) (fun q1 q2 => by omega)
      · have hpi1 := hpb (i + 1) (by omega)
        have hpm := hmax (i + 1) (by omega) (by omega)
        have hb := CS_hq_mem (n := n) (E := E) (i := p (i + 1)) (by omega)
        have hlt := CS_lt_lt (n := n) (E := E) (i := p i) (j := p (i + 1)) (by omega) (by omega)
        refine j_al0n (pc := 21) dX2_advance_21 ?_
        refine g2_chosen (pc := 22) dX2_advance_22 ?_
        refine j_il1n (pc := 25) dX2_advance_25 ?_
        refine j_iconst (pc := 26) (nI 1) dX2_advance_26 (by decide) ?_
        first | with_reducible refine j_iaddN (pc := 27) dX2_advance_27 ?_ | refine j_iadd (pc := 27) dX2_advance_27 ?_
        refine j_iconst (pc := 28) (nI 5) dX2_advance_28 (by decide) ?_
        refine j_iremN (pc := 29) dX2_advance_29 (by omega) (by omega) (by omega) ?_
        rw [show (i + 1) % 5 = i + 1 from Nat.mod_eq_of_lt (by omega)]
        refine al2_chosen (pc := 30) dX2_advance_30 (by omega) (hw (i + 1) (by omega)) ?_
        refine j_goto (pc := 31) 40 dX2_advance_31 (by decide) ?_
        refine h40 _ (by omega) hlt (fun q => CS_lt_lt (by omega) (by omega)) (fun q1 q2 => ?_)
        rw [show p (i + 1) = p i + 1 by omega]
        exact Nat.le_refl _
  refine j_al0n (pc := 0) dX2_advance_0 ?_
  refine g2_size (pc := 1) dX2_advance_1 (by first | assumption | rfl) ?_
  refine j_iconst (pc := 4) (nI 1) dX2_advance_4 (by decide) ?_
  refine j_isub (pc := 5) dX2_advance_5 (j_topi (no_sub _) ?_)
  first | refine j_st1n_s (pc := 6) dX2_advance_6 ?_ | refine j_st1n_a (pc := 6) dX2_advance_6 ?_
  exact main k (Nat.le_refl _) (fun j j1 j2 => by omega)
end S2
end
section
/-! X2: largest, best, and the public methods -/
set_option maxRecDepth 100000
def Inv2 (n : Nat) (E : Nat → Nat) (st : Nat) (w : Wd) : Prop := Ok1 n E w ∧ st ≤ n ∧ w 10 1 = no st
theorem Inv2.fr {n : Nat} {E : Nat → Nat} {st : Nat} {w w' : Wd} (iv : Inv2 n E st w) (h0 : w' 0 = w 0) (h1 : w' 10 0 = w 10 0) (h2 : w' 10 1 = w 10 1) : Inv2 n E st w' := ⟨iv.1.fr h0 h1, iv.2.1, by rw [h2]; exact iv.2.2⟩
section S2
variable {l : Launch} {D : va_G} {h : Nat → Nat} {d : Nat → ClassId} {w : Wd} {n : Nat} {E : Nat → Nat} {st : Nat}
set_option maxHeartbeats 1000000 in
theorem m2_largest (ok : Ok1 n E w) (hf : Fit n E w) {c : Nat} (hc : c < 2 ^ n) : Mi l D (K2 h d) yX2_largest cX2_largest 3 2 (some .boolean) [.ref (h 0), .int (nI c)] w (fun r w' => w = w' ∧ r = bI (mxl n E c)) := by
  have ok' := ok
  obtain ⟨h2, h5, hE3, hE, hn⟩ := ok
  have hp := p2_le h5
  refine Mi.of (by decide) rfl (by simp [Value.category]) (Nat.le_of_ble_eq_true rfl) (fun X R => ?_)
  have L : hold n (lvl E 25) c = true → ∀ m x, x + m = 2 ^ n → 1 ≤ x → (∀ y, y < x → 1 ≤ y → y ≠ c → y &&& c = c → hold n (lvl E 25) y = false) → J X (K2 h d) cX2_largest 3 2 12 [.ref (h 0), .int (nI c), .int (nI x)] [] w := by
    intro hh m
    induction m with
    | zero =>
      intro x hx h1 f
      obtain rfl : x = 2 ^ n := by omega
      have e : mxl n E c = true := by
        unfold mxl
        rw [hh, decide_eq_true f]
        rfl
      refine j_il2n (pc := 12) dX2_largest_12 ?_
      refine j_iconst (pc := 13) (nI 1) dX2_largest_13 (by decide) ?_
      refine j_al0n (pc := 14) dX2_largest_14 ?_
      refine g2_n (pc := 15) dX2_largest_15 (by first | assumption | rfl) ?_
      refine j_ishl1 (pc := 18) dX2_largest_18 (by omega) ?_
      refine j_icmp_geN (pc := 19) 50 dX2_largest_19 (by decide) (by omega) (by omega) (fun c1 => ?_) (fun c1 => ?_)
      · refine j_iconst (pc := 50) (nI 1) dX2_largest_50 (by decide) ?_
        exact j_zret R dX2_largest_51 true (by first | rfl | decide) (⟨rfl, by rw [e]⟩)
      · omega
    | succ m ih =>
      intro x hx h1 f
      have hlt : x &&& c < 32 := Nat.lt_of_le_of_lt Nat.and_le_right (by omega)
      have nxt : (x ≠ c → x &&& c = c → hold n (lvl E 25) x = false) → J X (K2 h d) cX2_largest 3 2 44 [.ref (h 0), .int (nI c), .int (nI x)] [] w := by
        intro q
        refine j_inc2N (pc := 44) dX2_largest_44 ?_
        refine j_goto (pc := 47) 12 dX2_largest_47 (by decide) ?_
        refine ih (x + 1) (by omega) (by omega) (fun y y1 y2 y3 y4 => ?_)
        by_cases e : y = x
        · subst e
          exact q y3 y4
        · exact f y (by omega) y2 y3 y4
      refine j_il2n (pc := 12) dX2_largest_12 ?_
      refine j_iconst (pc := 13) (nI 1) dX2_largest_13 (by decide) ?_
      refine j_al0n (pc := 14) dX2_largest_14 ?_
      refine g2_n (pc := 15) dX2_largest_15 (by first | assumption | rfl) ?_
      refine j_ishl1 (pc := 18) dX2_largest_18 (by omega) ?_
      refine j_icmp_geN (pc := 19) 50 dX2_largest_19 (by decide) (by omega) (by omega) (fun c1 => ?_) (fun c1 => ?_)
      · omega
      refine j_il2n (pc := 22) dX2_largest_22 ?_
      refine j_il1n (pc := 23) dX2_largest_23 ?_
      refine j_icmp_eqN (pc := 24) 44 dX2_largest_24 (by decide) (by omega) (by omega) (fun c2 => ?_) (fun c2 => ?_)
      · exact nxt (fun q => absurd c2 q)
      refine j_il2n (pc := 27) dX2_largest_27 ?_
      refine j_il1n (pc := 28) dX2_largest_28 ?_
      first | with_reducible refine j_iandN (pc := 29) dX2_largest_29 ?_ | refine j_iand (pc := 29) dX2_largest_29 ?_
      refine j_il1n (pc := 30) dX2_largest_30 ?_
      refine j_icmp_neN (pc := 31) 44 dX2_largest_31 (by decide) (by omega) (by omega) (fun c3 => ?_) (fun c3 => ?_)
      · exact nxt (fun _ q => absurd q c3)
      refine j_al0n (pc := 34) dX2_largest_34 ?_
      refine j_il2n (pc := 35) dX2_largest_35 ?_
      refine cl2_agreeing (pc := 36) dX2_largest_36 (m2_agreeing ok' hf (by omega)) (fun r w' e => ?_)
      obtain ⟨rfl, rfl⟩ := e
      refine j_if_eqB (pc := 39) 44 dX2_largest_39 (by decide) (fun c4 => ?_) (fun c4 => ?_)
      · exact nxt (fun _ _ => c4)
      · have e : mxl n E c = false := by
          unfold mxl
          rw [decide_eq_false (fun q => by rw [q x (by omega) h1 c2 c3] at c4; exact absurd c4 (by decide))]
          simp
        refine j_iconst (pc := 42) (nI 0) dX2_largest_42 (by decide) ?_
        exact j_zret R dX2_largest_43 false (by first | rfl | decide) (⟨rfl, by rw [e]⟩)
  refine j_al0n (pc := 0) dX2_largest_0 ?_
  refine j_il1n (pc := 1) dX2_largest_1 ?_
  refine cl2_agreeing (pc := 2) dX2_largest_2 (m2_agreeing ok' hf (by omega)) (fun r w' e => ?_)
  obtain ⟨rfl, rfl⟩ := e
  refine j_if_neB (pc := 5) 10 dX2_largest_5 (by decide) (fun c1 => ?_) (fun c1 => ?_)
  · refine j_iconst (pc := 10) (nI 1) dX2_largest_10 (by decide) ?_
    first | refine j_st2n_s (pc := 11) dX2_largest_11 ?_ | refine j_st2n_a (pc := 11) dX2_largest_11 ?_
    exact L c1 (2 ^ n - 1) 1 (by omega) (by omega) (fun y y1 y2 => by omega)
  · have e : mxl n E c = false := by
      unfold mxl
      rw [c1]
      rfl
    refine j_iconst (pc := 8) (nI 0) dX2_largest_8 (by decide) ?_
    exact j_zret R dX2_largest_9 false (by first | rfl | decide) (⟨rfl, by rw [e]⟩)
set_option maxHeartbeats 4000000 in
theorem m2_best (ok : Ok1 n E w) : Mv l D (K2 h d) yX2_best cX2_best 4 5 [.ref (h 0)] w (fun w' => (∀ q, q ≠ 1 → q ≠ 2 → q ≠ 10 → w' q = w q) ∧ (∀ j, j ≠ 2 → w' 10 j = w 10 j) ∧ ∃ k cv, IsB n E k cv ∧ w' 10 2 = nI k ∧ ∀ i, i < k → w' 2 i = nI (cv i)) := by
  have ok' := ok
  obtain ⟨h2, h5, hE3, hE, hn⟩ := ok
  have hp := p2_le h5
  have hp4 := p2_ge h2
  have hlen := CS_len (n := n) (E := E) h5
  have hlen2 := CS_len_ge hE3
  obtain ⟨k0, pl0, b1, b2, b3, b4⟩ := best_ex (by omega) hE3
  refine Mv.of (by decide) rfl (by simp [Value.category]) (Nat.le_of_ble_eq_true rfl) (fun X R => ?_)
  refine j_al0n (pc := 0) dX2_best_0 ?_
  refine cl2_tabulate (pc := 1) dX2_best_1 (m2_tabulate ok') (fun wA eA => ?_)
  obtain ⟨fA, hfA⟩ := eA
  have okA : Ok1 n E wA := ok'.fr (fA 0 (by decide)) (by rw [fA 10 (by decide)])
  refine j_iconst (pc := 4) (nI 1) dX2_best_4 (by decide) ?_
  first | refine j_st1n_s (pc := 5) dX2_best_5 ?_ | refine j_st1n_a (pc := 5) dX2_best_5 ?_
  have outer : ∀ m k w1, k + m = k0 → 1 ≤ k → (∀ q, q ≠ 2 → q ≠ 10 → w1 q = wA q) → (∀ j, j ≠ 2 → w1 10 j = wA 10 j) → J X (K2 h d) cX2_best 4 5 6 [.ref (h 0), .int (nI k)] [] w1 := by
    intro m
    induction m with
    | zero =>
      intro k w1 hk hk1 f1 f2
      obtain rfl : k = k0 := by omega
      have hn2 : w1 10 0 = nI n := by rw [f2 0 (by decide)]; exact okA.2.2.2.2
      -- the search of this size
      have inner : ∀ m2 rd (p : Nat → Nat) w2, rd + m2 = 200000 → (todo (CS n E).length k p (k - 1) (p (k - 1) + 1)).length + 1 ≤ m2 → (∀ i, i < k → p i ≤ (CS n E).length - k + i) → (∀ q, q ≠ 2 → q ≠ 10 → w2 q = wA q) → (∀ j, j ≠ 2 → w2 10 j = wA 10 j) → w2 10 2 = nI k → (∀ i, i < k → w2 2 i = nI ((CS n E).getD (p i) 0)) → (preL p k :: todo (CS n E).length k p (k - 1) (p (k - 1) + 1)).find? (PP E n (CS n E) k) = RK n E k → J X (K2 h d) cX2_best 4 5 43 [.ref (h 0), .int (nI k), .int (bI true), .int (nI rd)] [] w2 := by
        intro m2
        induction m2 with
        | zero => intro rd p w2 hrd hl; omega
        | succ m2 ih2 =>
          intro rd p w2 hrd hl hpb g1 g2 g3 g4 hfind
          have okB : Ok1 n E w2 := okA.fr (g1 0 (by decide) (by decide)) (g2 0 (by decide))
          have hfB : Fit n E w2 := fun s t hs ht => by rw [g1 1 (by decide) (by decide)]; exact hfA s t hs ht
          refine j_il3n (pc := 43) dX2_best_43 ?_
          refine j_ldc (pc := 44) (nI 200000) dX2_best_44 q372 (by decide) ?_
          refine j_icmp_geN (pc := 46) 72 dX2_best_46 (by decide) (by omega) (by omega) (fun c1 => ?_) (fun c1 => ?_)
          · omega
          refine j_il2n (pc := 49) dX2_best_49 ?_
          refine j_if_eqB (pc := 50) 72 dX2_best_50 (by decide) (fun c2 => ?_) (fun c2 => ?_)
          · exact absurd c2 (by decide)
          refine j_al0n (pc := 53) dX2_best_53 ?_
          refine cl2_covers (pc := 54) dX2_best_54 (m2_covers okB hfB (cv := fun i => (CS n E).getD (p i) 0) (k := k) (by omega) g3 (fun i hi => ⟨g4 i hi, (CS_hq_mem (by have := hpb i hi; omega)).2.1⟩)) (fun r w' e => ?_)
          obtain ⟨rfl, rfl⟩ := e
          rw [covB_PP (p := p) (fun i hi => by have := hpb i hi; omega) (fun i hi => rfl)]
          rw [List.find?_cons] at hfind
          refine j_if_eqB (pc := 57) 61 dX2_best_57 (by decide) (fun c3 => ?_) (fun c3 => ?_)
          · rw [c3] at hfind
            refine j_al0n (pc := 61) dX2_best_61 ?_
            refine cl2_advance (pc := 62) dX2_best_62 (m2_advance okB hfB (p := p) (k := k) hk1 (by omega) (by omega) g3 hpb g4) (fun r w3 e => ?_)
            obtain ⟨a1, a2⟩ := e
            rcases a2 with ⟨rfl, a3⟩ | ⟨rfl, i, a3, a4, a5, a6⟩
            · rw [todo_ends (by omega) (k - 1) 0 (by omega) (fun j j1 j2 => a3 j j2), a3 0 (by omega), todo_back0 (by omega), b3] at hfind
              cases hfind
            · rw [todo_ends (by omega) (k - 1 - i) i (by omega) a4, todo_first (k - 1 - i) i (p i + 1) p (by omega) (by omega)] at hfind hl
              first | refine j_st2n_s (pc := 65) dX2_best_65 ?_ | refine j_st2n_a (pc := 65) dX2_best_65 ?_
              refine j_inc3N (pc := 66) dX2_best_66 ?_
              refine j_goto (pc := 69) 43 dX2_best_69 (by decide) ?_
              refine ih2 (rd + 1) (pfill p i (p i + 1)) w3 (by omega) (by simp only [List.length_cons] at hl; omega) (fun j hj => ?_) (fun q q1 q2 => by rw [a1 q q1]; exact g1 q q1 q2) (fun j hj => by rw [a1 10 (by decide)]; exact g2 j hj) (by rw [a1 10 (by decide)]; exact g3) a6 hfind
              unfold pfill
              split
              · exact hpb j hj
              · omega
          · rw [c3] at hfind
            refine j_vret R dX2_best_60 ⟨fun q q1 q2 q3 => by rw [g1 q q2 q3, fA q q1], fun j hj => by rw [g2 j hj, fA 10 (by decide)], k, fun i => (CS n E).getD (p i) 0, ⟨preL p k, ⟨hk1, b2, hfind.symm, b4⟩, fun i hi => by rw [preL_getD _ hi]⟩, g3, g4⟩
      refine j_il1n (pc := 6) dX2_best_6 ?_
      refine j_al0n (pc := 7) dX2_best_7 ?_
      refine g2_n (pc := 8) dX2_best_8 (by first | assumption | rfl) ?_
      refine j_icmp_gtN (pc := 11) 78 dX2_best_11 (by decide) (by omega) (by omega) (fun c1 => ?_) (fun c1 => ?_)
      · omega
      refine j_il1n (pc := 14) dX2_best_14 ?_
      refine j_iconst (pc := 15) (nI 5) dX2_best_15 (by decide) ?_
      refine j_icmp_gtN (pc := 16) 78 dX2_best_16 (by decide) (by omega) (by omega) (fun c2 => ?_) (fun c2 => ?_)
      · omega
      refine j_al0n (pc := 19) dX2_best_19 ?_
      refine j_il1n (pc := 20) dX2_best_20 ?_
      refine p2_size (pc := 21) dX2_best_21 ?_
      refine j_al0n (pc := 24) dX2_best_24 ?_
      refine j_iconst (pc := 25) (nI 0) dX2_best_25 (by decide) ?_
      refine j_il1n (pc := 26) dX2_best_26 ?_
      have okC : Ok1 n E (wset w1 10 2 (nI k)) := okA.fr (by rw [wset_i _ _ (by decide), f1 0 (by decide) (by decide)]) (by rw [wset_k _ _ (by decide), f2 0 (by decide)])
      have hfC : Fit n E (wset w1 10 2 (nI k)) := fun s t hs ht => by rw [wset_i _ _ (by decide), f1 1 (by decide) (by decide)]; exact hfA s t hs ht
      refine cl2_room (pc := 27) dX2_best_27 (m2_room okC hfC (c := 0) (many := k) (by omega) (by omega)) (fun r w' e => ?_)
      obtain ⟨rfl, rfl⟩ := e
      rw [rk_1, decide_eq_true (show k + 0 ≤ (CS n E).length by omega)]
      first | refine j_st2n_s (pc := 30) dX2_best_30 ?_ | refine j_st2n_a (pc := 30) dX2_best_30 ?_
      refine j_il2n (pc := 31) dX2_best_31 ?_
      refine j_if_eqB (pc := 32) 41 dX2_best_32 (by decide) (fun c3 => ?_) (fun c3 => ?_)
      · exact absurd c3 (by decide)
      refine j_al0n (pc := 35) dX2_best_35 ?_
      refine j_iconst (pc := 36) (nI 0) dX2_best_36 (by decide) ?_
      refine j_iconst (pc := 37) (nI 1) dX2_best_37 (by decide) ?_
      refine cl2_place (pc := 38) dX2_best_38 (m2_place okC hfC (i := 0) (c := 1) (k := k) (by omega) (wset_s _ _ _ _) (by omega) (by omega) (by omega)) (fun w2 e => ?_)
      obtain ⟨p1, p2, p3⟩ := e
      rw [rk_1] at p3
      refine j_iconst (pc := 41) (nI 0) dX2_best_41 (by decide) ?_
      first | refine j_st3n_s (pc := 42) dX2_best_42 ?_ | refine j_st3n_a (pc := 42) dX2_best_42 ?_
      have hfirst := todo_first (N := (CS n E).length) (k := k) (k - 1) 0 0 (fun _ => 0) (by omega) (by omega)
      have e0 : pfill (fun _ => 0) 0 0 = fun j => j := by funext j; simp [pfill]
      rw [e0] at hfirst
      have hall : todo (CS n E).length k (fun _ => 0) 0 0 = cmb (CS n E).length k 0 := rfl
      have hcnt := cmb_few (N := (CS n E).length) (k := k) hk1 (by omega) hlen
      rw [← hall, hfirst] at hcnt
      refine inner 200000 0 (fun j => j) w2 (by omega) (by simp only [List.length_cons] at hcnt; exact hcnt) (fun i hi => by omega) (fun q q1 q2 => by rw [p1 q q1, wset_i _ _ q2]; exact f1 q q1 q2) (fun j hj => by rw [p1 10 (by decide), wset_k _ _ hj]; exact f2 j hj) (by rw [p1 10 (by decide), wset_s]) (fun i hi => ?_) ?_
      · have := p3 i (by omega) hi (by omega)
        rw [this]
        simp
      · rw [← hfirst]
        rfl
    | succ m ih =>
      intro k w1 hk hk1 f1 f2
      have hn2 : w1 10 0 = nI n := by rw [f2 0 (by decide)]; exact okA.2.2.2.2
      have hRK := b4 k hk1 (by omega)
      have done : ∀ w2 b rd, rd ≤ 200000 → (∀ q, q ≠ 2 → q ≠ 10 → w2 q = wA q) → (∀ j, j ≠ 2 → w2 10 j = wA 10 j) → b = false → J X (K2 h d) cX2_best 4 5 43 [.ref (h 0), .int (nI k), .int (bI b), .int (nI rd)] [] w2 := by
        intro w2 b rd hrd g1 g2 hb
        subst hb
        have n1 : J X (K2 h d) cX2_best 4 5 72 [.ref (h 0), .int (nI k), .int (bI false), .int (nI rd)] [] w2 := by
          refine j_inc1N (pc := 72) dX2_best_72 ?_
          refine j_goto (pc := 75) 6 dX2_best_75 (by decide) ?_
          exact j_wk (ih (k + 1) w2 (by omega) (by omega) g1 g2) ⟨_, rfl⟩
        refine j_il3n (pc := 43) dX2_best_43 ?_
        refine j_ldc (pc := 44) (nI 200000) dX2_best_44 q372 (by decide) ?_
        refine j_icmp_geN (pc := 46) 72 dX2_best_46 (by decide) (by omega) (by omega) (fun c1 => ?_) (fun c1 => ?_)
        · exact n1
        refine j_il2n (pc := 49) dX2_best_49 ?_
        refine j_if_eqB (pc := 50) 72 dX2_best_50 (by decide) (fun c2 => ?_) (fun c2 => ?_)
        · exact n1
        · exact absurd c2 (by decide)
      have inner : ∀ m2 rd (p : Nat → Nat) w2, rd + m2 = 200000 → (todo (CS n E).length k p (k - 1) (p (k - 1) + 1)).length + 1 ≤ m2 → (∀ i, i < k → p i ≤ (CS n E).length - k + i) → (∀ q, q ≠ 2 → q ≠ 10 → w2 q = wA q) → (∀ j, j ≠ 2 → w2 10 j = wA 10 j) → w2 10 2 = nI k → (∀ i, i < k → w2 2 i = nI ((CS n E).getD (p i) 0)) → (preL p k :: todo (CS n E).length k p (k - 1) (p (k - 1) + 1)).find? (PP E n (CS n E) k) = RK n E k → J X (K2 h d) cX2_best 4 5 43 [.ref (h 0), .int (nI k), .int (bI true), .int (nI rd)] [] w2 := by
        intro m2
        induction m2 with
        | zero => intro rd p w2 hrd hl; omega
        | succ m2 ih2 =>
          intro rd p w2 hrd hl hpb g1 g2 g3 g4 hfind
          have okB : Ok1 n E w2 := okA.fr (g1 0 (by decide) (by decide)) (g2 0 (by decide))
          have hfB : Fit n E w2 := fun s t hs ht => by rw [g1 1 (by decide) (by decide)]; exact hfA s t hs ht
          refine j_il3n (pc := 43) dX2_best_43 ?_
          refine j_ldc (pc := 44) (nI 200000) dX2_best_44 q372 (by decide) ?_
          refine j_icmp_geN (pc := 46) 72 dX2_best_46 (by decide) (by omega) (by omega) (fun c1 => ?_) (fun c1 => ?_)
          · omega
          refine j_il2n (pc := 49) dX2_best_49 ?_
          refine j_if_eqB (pc := 50) 72 dX2_best_50 (by decide) (fun c2 => ?_) (fun c2 => ?_)
          · exact absurd c2 (by decide)
          refine j_al0n (pc := 53) dX2_best_53 ?_
          refine cl2_covers (pc := 54) dX2_best_54 (m2_covers okB hfB (cv := fun i => (CS n E).getD (p i) 0) (k := k) (by omega) g3 (fun i hi => ⟨g4 i hi, (CS_hq_mem (by have := hpb i hi; omega)).2.1⟩)) (fun r w' e => ?_)
          obtain ⟨rfl, rfl⟩ := e
          rw [covB_PP (p := p) (fun i hi => by have := hpb i hi; omega) (fun i hi => rfl)]
          rw [List.find?_cons] at hfind
          refine j_if_eqB (pc := 57) 61 dX2_best_57 (by decide) (fun c3 => ?_) (fun c3 => ?_)
          · rw [c3] at hfind
            refine j_al0n (pc := 61) dX2_best_61 ?_
            refine cl2_advance (pc := 62) dX2_best_62 (m2_advance okB hfB (p := p) (k := k) hk1 (by omega) (by omega) g3 hpb g4) (fun r w3 e => ?_)
            obtain ⟨a1, a2⟩ := e
            rcases a2 with ⟨rfl, a3⟩ | ⟨rfl, i, a3, a4, a5, a6⟩
            · first | refine j_st2n_s (pc := 65) dX2_best_65 ?_ | refine j_st2n_a (pc := 65) dX2_best_65 ?_
              refine j_inc3N (pc := 66) dX2_best_66 ?_
              refine j_goto (pc := 69) 43 dX2_best_69 (by decide) ?_
              exact done w3 false (rd + 1) (by omega) (fun q q1 q2 => by rw [a1 q q1]; exact g1 q q1 q2) (fun j hj => by rw [a1 10 (by decide)]; exact g2 j hj) rfl
            · rw [todo_ends (by omega) (k - 1 - i) i (by omega) a4, todo_first (k - 1 - i) i (p i + 1) p (by omega) (by omega)] at hfind hl
              first | refine j_st2n_s (pc := 65) dX2_best_65 ?_ | refine j_st2n_a (pc := 65) dX2_best_65 ?_
              refine j_inc3N (pc := 66) dX2_best_66 ?_
              refine j_goto (pc := 69) 43 dX2_best_69 (by decide) ?_
              refine ih2 (rd + 1) (pfill p i (p i + 1)) w3 (by omega) (by simp only [List.length_cons] at hl; omega) (fun j hj => ?_) (fun q q1 q2 => by rw [a1 q q1]; exact g1 q q1 q2) (fun j hj => by rw [a1 10 (by decide)]; exact g2 j hj) (by rw [a1 10 (by decide)]; exact g3) a6 hfind
              unfold pfill
              split
              · exact hpb j hj
              · omega
          · rw [c3, hRK] at hfind
            cases hfind
      refine j_il1n (pc := 6) dX2_best_6 ?_
      refine j_al0n (pc := 7) dX2_best_7 ?_
      refine g2_n (pc := 8) dX2_best_8 (by first | assumption | rfl) ?_
      refine j_icmp_gtN (pc := 11) 78 dX2_best_11 (by decide) (by omega) (by omega) (fun c1 => ?_) (fun c1 => ?_)
      · omega
      refine j_il1n (pc := 14) dX2_best_14 ?_
      refine j_iconst (pc := 15) (nI 5) dX2_best_15 (by decide) ?_
      refine j_icmp_gtN (pc := 16) 78 dX2_best_16 (by decide) (by omega) (by omega) (fun c2 => ?_) (fun c2 => ?_)
      · omega
      refine j_al0n (pc := 19) dX2_best_19 ?_
      refine j_il1n (pc := 20) dX2_best_20 ?_
      refine p2_size (pc := 21) dX2_best_21 ?_
      refine j_al0n (pc := 24) dX2_best_24 ?_
      refine j_iconst (pc := 25) (nI 0) dX2_best_25 (by decide) ?_
      refine j_il1n (pc := 26) dX2_best_26 ?_
      have okC : Ok1 n E (wset w1 10 2 (nI k)) := okA.fr (by rw [wset_i _ _ (by decide), f1 0 (by decide) (by decide)]) (by rw [wset_k _ _ (by decide), f2 0 (by decide)])
      have hfC : Fit n E (wset w1 10 2 (nI k)) := fun s t hs ht => by rw [wset_i _ _ (by decide), f1 1 (by decide) (by decide)]; exact hfA s t hs ht
      refine cl2_room (pc := 27) dX2_best_27 (m2_room okC hfC (c := 0) (many := k) (by omega) (by omega)) (fun r w' e => ?_)
      obtain ⟨rfl, rfl⟩ := e
      rw [rk_1, decide_eq_true (show k + 0 ≤ (CS n E).length by omega)]
      first | refine j_st2n_s (pc := 30) dX2_best_30 ?_ | refine j_st2n_a (pc := 30) dX2_best_30 ?_
      refine j_il2n (pc := 31) dX2_best_31 ?_
      refine j_if_eqB (pc := 32) 41 dX2_best_32 (by decide) (fun c3 => ?_) (fun c3 => ?_)
      · exact absurd c3 (by decide)
      refine j_al0n (pc := 35) dX2_best_35 ?_
      refine j_iconst (pc := 36) (nI 0) dX2_best_36 (by decide) ?_
      refine j_iconst (pc := 37) (nI 1) dX2_best_37 (by decide) ?_
      refine cl2_place (pc := 38) dX2_best_38 (m2_place okC hfC (i := 0) (c := 1) (k := k) (by omega) (wset_s _ _ _ _) (by omega) (by omega) (by omega)) (fun w2 e => ?_)
      obtain ⟨p1, p2, p3⟩ := e
      rw [rk_1] at p3
      refine j_iconst (pc := 41) (nI 0) dX2_best_41 (by decide) ?_
      first | refine j_st3n_s (pc := 42) dX2_best_42 ?_ | refine j_st3n_a (pc := 42) dX2_best_42 ?_
      have hfirst := todo_first (N := (CS n E).length) (k := k) (k - 1) 0 0 (fun _ => 0) (by omega) (by omega)
      have e0 : pfill (fun _ => 0) 0 0 = fun j => j := by funext j; simp [pfill]
      rw [e0] at hfirst
      have hall : todo (CS n E).length k (fun _ => 0) 0 0 = cmb (CS n E).length k 0 := rfl
      have hcnt := cmb_few (N := (CS n E).length) (k := k) hk1 (by omega) hlen
      rw [← hall, hfirst] at hcnt
      refine inner 200000 0 (fun j => j) w2 (by omega) (by simp only [List.length_cons] at hcnt; exact hcnt) (fun i hi => by omega) (fun q q1 q2 => by rw [p1 q q1, wset_i _ _ q2]; exact f1 q q1 q2) (fun j hj => by rw [p1 10 (by decide), wset_k _ _ hj]; exact f2 j hj) (by rw [p1 10 (by decide), wset_s]) (fun i hi => ?_) ?_
      · have := p3 i (by omega) hi (by omega)
        rw [this]
        simp
      · rw [← hfirst]
        rfl
  exact outer (k0 - 1) 1 wA (by omega) (by omega) (fun _ _ _ => rfl) (fun _ _ => rfl)
end S2
end
section
/-! X2: the public methods -/
set_option maxRecDepth 100000
section S2
variable {l : Launch} {D : va_G} {h : Nat → Nat} {d : Nat → ClassId} {w : Wd} {n : Nat} {E : Nat → Nat} {st : Nat}
theorem nt_f {b : Bool} (h : (!b) = false) : b = true := by cases b; exact absurd h (by decide); rfl
theorem nt_t {b : Bool} (h : (!b) = true) : b = false := by cases b; rfl; exact absurd h (by decide)
set_option maxHeartbeats 1000000 in
theorem m2_states (iv : Inv2 n E st w) : Mi l D (K2 h d) yX2_states cX2_states 1 0 (some .int) [.ref (h 0)] w (fun r w' => r = nI n ∧ Inv2 n E st w') := by
  have hn := iv.1.2.2.2.2
  refine Mi.of (by decide) rfl (by simp [Value.category]) (Nat.le_of_ble_eq_true rfl) (fun X R => ?_)
  refine j_al0n (pc := 0) dX2_states_0 ?_
  refine g2_n (pc := 1) dX2_states_1 (by first | assumption | rfl) ?_
  exact j_iret R dX2_states_4 (⟨rfl, iv⟩)
set_option maxHeartbeats 1000000 in
theorem m2_lost (iv : Inv2 n E st w) : Mi l D (K2 h d) yX2_lost cX2_lost 1 0 (some .int) [.ref (h 0)] w (fun r w' => r = bI (decide (st = 0)) ∧ Inv2 n E st w') := by
  have iv' := iv
  obtain ⟨⟨h2, h5, hE3, hE, hn⟩, hst, h1⟩ := iv
  refine Mi.of (by decide) rfl (by simp [Value.category]) (Nat.le_of_ble_eq_true rfl) (fun X R => ?_)
  refine j_al0n (pc := 0) dX2_lost_0 ?_
  refine g2_at (pc := 1) dX2_lost_1 (by first | assumption | rfl) ?_
  refine j_iconst (pc := 4) (-1) dX2_lost_4 (by decide) ?_
  refine j_icmp_ne (pc := 5) 12 dX2_lost_5 (by decide) (fun c => ?_) (fun c => ?_)
  · rw [no_m1 (by omega)] at c
    refine j_iconst (pc := 12) (bI false) dX2_lost_12 (by decide) ?_
    exact j_iret R dX2_lost_13 (⟨by rw [decide_eq_false c], iv'⟩)
  · rw [no_m1 (by omega)] at c
    refine j_iconst (pc := 8) (bI true) dX2_lost_8 (by decide) ?_
    refine j_goto (pc := 9) 13 dX2_lost_9 (by decide) ?_
    exact j_iret R dX2_lost_13 (⟨by rw [decide_eq_true c], iv'⟩)
set_option maxHeartbeats 1000000 in
theorem m2_restart (iv : Inv2 n E st w) : Mv l D (K2 h d) yX2_restart cX2_restart 1 0 [.ref (h 0)] w (fun w' => Inv2 n E 1 w') := by
  have h2 := iv.1.1
  refine Mv.of (by decide) rfl (by simp [Value.category]) (Nat.le_of_ble_eq_true rfl) (fun X R => ?_)
  refine j_al0n (pc := 0) dX2_restart_0 ?_
  refine j_iconst (pc := 1) (nI 0) dX2_restart_1 (by decide) ?_
  refine p2_at (pc := 2) dX2_restart_2 ?_
  exact j_vret R dX2_restart_5 (⟨iv.1.fr (by rw [wset_i _ _ (by decide)]) (by rw [wset_k _ _ (by decide)]), by omega, by rw [wset_s]; rfl⟩)
set_option maxHeartbeats 1000000 in
theorem m2_entry (iv : Inv2 n E st w) (x a : Int32) : Mi l D (K2 h d) yX2_entry cX2_entry 3 1 (some .int) [.ref (h 0), .int x, .int a] w (fun r w' => r = r_entry n E x a ∧ Inv2 n E st w') := by
  have iv' := iv
  obtain ⟨ok, hst, h1⟩ := iv
  have ok' := ok
  obtain ⟨h2, h5, hE3, hE, hn⟩ := ok
  refine Mi.of (by decide) rfl (by simp [Value.category]) (Nat.le_of_ble_eq_true rfl) (fun X R => ?_)
  refine j_al0n (pc := 0) dX2_entry_0 ?_
  refine j_il1n (pc := 1) dX2_entry_1 ?_
  refine cl2_badState (pc := 2) dX2_entry_2 (m2_badState ok' x) (fun r w' e => ?_)
  obtain ⟨rfl, rfl⟩ := e
  refine j_if_eqB (pc := 5) 10 dX2_entry_5 (by decide) (fun c => ?_) (fun c => ?_)
  rotate_left
  · refine j_iconst (pc := 8) (-1) dX2_entry_8 (by decide) ?_
    exact j_iret R dX2_entry_9 (⟨by rw [r_entry, if_pos (nt_t c)], iv'⟩)
  have c := nt_f c
  refine j_al0n (pc := 10) dX2_entry_10 ?_
  refine j_il2n (pc := 11) dX2_entry_11 ?_
  refine cl2_badInput (pc := 12) dX2_entry_12 (m2_badInput a) (fun r w' e => ?_)
  obtain ⟨rfl, rfl⟩ := e
  refine j_if_eqB (pc := 15) 21 dX2_entry_15 (by decide) (fun c2 => ?_) (fun c2 => ?_)
  rotate_left
  · refine j_bipush (pc := 18) (-2) dX2_entry_18 (by decide) ?_
    exact j_iret R dX2_entry_20 (⟨by rw [r_entry, if_neg (by rw [c]; decide), if_pos (nt_t c2)], iv'⟩)
  have c2 := nt_f c2
  have hr : r_entry n E x a = nI (E (2 * cl x + cl a)) := by rw [r_entry, if_neg (by rw [c]; decide), if_neg (by rw [c2]; decide)]
  obtain ⟨s, -, hs, rfl⟩ := inR_nI c (by omega)
  obtain ⟨b, -, hb, rfl⟩ := inR_nI c2 (by omega)
  rw [cl_nI (by omega), cl_nI (by omega)] at hr
  refine j_al0n (pc := 21) dX2_entry_21 ?_
  refine g2_entry (pc := 22) dX2_entry_22 ?_
  refine j_iconst (pc := 25) (nI 2) dX2_entry_25 (by decide) ?_
  refine j_il1n (pc := 26) dX2_entry_26 ?_
  first | with_reducible refine j_imulN (pc := 27) dX2_entry_27 ?_ | refine j_imul (pc := 27) dX2_entry_27 ?_
  refine j_il2n (pc := 28) dX2_entry_28 ?_
  first | with_reducible refine j_iaddN (pc := 29) dX2_entry_29 ?_ | refine j_iadd (pc := 29) dX2_entry_29 ?_
  refine al2_entry (pc := 30) dX2_entry_30 (by omega) (hE _ (by omega)) ?_
  exact j_iret R dX2_entry_31 (⟨hr.symm, iv'⟩)
set_option maxHeartbeats 1000000 in
theorem m2_set (iv : Inv2 n E st w) (x a e : Int32) : Mi l D (K2 h d) yX2_set cX2_set 5 1 (some .int) [.ref (h 0), .int x, .int a, .int e] w (fun r w' => r = r_set n E x a e ∧ Inv2 n (E_set n E x a e) (st_set n st x a e) w') := by
  have iv' := iv
  obtain ⟨ok, hst, h1⟩ := iv
  have ok' := ok
  obtain ⟨h2, h5, hE3, hE, hn⟩ := ok
  have same : ok_set n x a e = false → Inv2 n (E_set n E x a e) (st_set n st x a e) w := by
    intro q
    have e1 : E_set n E x a e = E := by funext k; simp [E_set, q]
    have e2 : st_set n st x a e = st := by simp [st_set, q]
    rw [e1, e2]
    exact iv'
  refine Mi.of (by decide) rfl (by simp [Value.category]) (Nat.le_of_ble_eq_true rfl) (fun X R => ?_)
  refine j_al0n (pc := 0) dX2_set_0 ?_
  refine j_il1n (pc := 1) dX2_set_1 ?_
  refine cl2_badState (pc := 2) dX2_set_2 (m2_badState ok' x) (fun r w' e0 => ?_)
  obtain ⟨rfl, rfl⟩ := e0
  refine j_if_eqB (pc := 5) 10 dX2_set_5 (by decide) (fun c => ?_) (fun c => ?_)
  rotate_left
  · have c := nt_t c
    refine j_iconst (pc := 8) (-1) dX2_set_8 (by decide) ?_
    exact j_iret R dX2_set_9 (⟨by rw [r_set, if_pos c], same (by simp [ok_set, c])⟩)
  have c := nt_f c
  refine j_al0n (pc := 10) dX2_set_10 ?_
  refine j_il2n (pc := 11) dX2_set_11 ?_
  refine cl2_badInput (pc := 12) dX2_set_12 (m2_badInput a) (fun r w' e0 => ?_)
  obtain ⟨rfl, rfl⟩ := e0
  refine j_if_eqB (pc := 15) 21 dX2_set_15 (by decide) (fun c2 => ?_) (fun c2 => ?_)
  rotate_left
  · have c2 := nt_t c2
    refine j_bipush (pc := 18) (-2) dX2_set_18 (by decide) ?_
    exact j_iret R dX2_set_20 (⟨by rw [r_set, if_neg (by rw [c]; decide), if_pos c2], same (by simp [ok_set, c2])⟩)
  have c2 := nt_f c2
  refine j_il3n (pc := 21) dX2_set_21 ?_
  refine j_if_lt (pc := 22) 39 dX2_set_22 (by decide) (fun c3 => ?_) (fun c3 => ?_)
  · rw [i_lt0] at c3
    have c4 : inR 0 (3 * (n + 1)) e = false := inR_f (by omega)
    refine j_bipush (pc := 39) (-3) dX2_set_39 (by decide) ?_
    exact j_iret R dX2_set_41 (⟨by rw [r_set, if_neg (by rw [c]; decide), if_neg (by rw [c2]; decide), if_pos c4], same (by simp [ok_set, c4])⟩)
  rw [i_lt0] at c3
  refine j_il3n (pc := 25) dX2_set_25 ?_
  refine j_iconst (pc := 26) (nI 3) dX2_set_26 (by decide) ?_
  refine j_al0n (pc := 27) dX2_set_27 ?_
  refine g2_n (pc := 28) dX2_set_28 (by first | assumption | rfl) ?_
  refine j_iconst (pc := 31) (nI 1) dX2_set_31 (by decide) ?_
  first | with_reducible refine j_iaddN (pc := 32) dX2_set_32 ?_ | refine j_iadd (pc := 32) dX2_set_32 ?_
  first | with_reducible refine j_imulN (pc := 33) dX2_set_33 ?_ | refine j_imul (pc := 33) dX2_set_33 ?_
  refine j_iconst (pc := 34) (nI 1) dX2_set_34 (by decide) ?_
  first | with_reducible refine j_isubN (pc := 35) dX2_set_35 (by omega) ?_ | refine j_isub (pc := 35) dX2_set_35 ?_
  refine j_icmp_le (pc := 36) 42 dX2_set_36 (by decide) (fun c4 => ?_) (fun c4 => ?_)
  rotate_left
  · rw [Int32.le_iff_toInt_le, nI_toInt (by omega)] at c4
    have c4 : inR 0 (3 * (n + 1)) e = false := inR_f (by omega)
    refine j_bipush (pc := 39) (-3) dX2_set_39 (by decide) ?_
    exact j_iret R dX2_set_41 (⟨by rw [r_set, if_neg (by rw [c]; decide), if_neg (by rw [c2]; decide), if_pos c4], same (by simp [ok_set, c4])⟩)
  rw [Int32.le_iff_toInt_le, nI_toInt (by omega)] at c4
  have c4 : inR 0 (3 * (n + 1)) e = true := inR_t (by omega) (by omega)
  have hok : ok_set n x a e = true := by simp [ok_set, c, c2, c4]
  have hr : r_set n E x a e = nI (E (2 * cl x + cl a)) := by rw [r_set, if_neg (by rw [c]; decide), if_neg (by rw [c2]; decide), if_neg (by rw [c4]; decide)]
  obtain ⟨s, -, hs, rfl⟩ := inR_nI c (by omega)
  obtain ⟨b, -, hb, rfl⟩ := inR_nI c2 (by omega)
  obtain ⟨v, -, hv, rfl⟩ := inR_nI c4 (by omega)
  rw [cl_nI (by omega), cl_nI (by omega)] at hr
  refine j_al0n (pc := 42) dX2_set_42 ?_
  refine g2_entry (pc := 43) dX2_set_43 ?_
  refine j_iconst (pc := 46) (nI 2) dX2_set_46 (by decide) ?_
  refine j_il1n (pc := 47) dX2_set_47 ?_
  first | with_reducible refine j_imulN (pc := 48) dX2_set_48 ?_ | refine j_imul (pc := 48) dX2_set_48 ?_
  refine j_il2n (pc := 49) dX2_set_49 ?_
  first | with_reducible refine j_iaddN (pc := 50) dX2_set_50 ?_ | refine j_iadd (pc := 50) dX2_set_50 ?_
  refine al2_entry (pc := 51) dX2_set_51 (by omega) (hE _ (by omega)) ?_
  first | refine j_st4_s (pc := 52) dX2_set_52 ?_ | refine j_st4_a (pc := 52) dX2_set_52 ?_
  refine j_al0n (pc := 54) dX2_set_54 ?_
  refine g2_entry (pc := 55) dX2_set_55 ?_
  refine j_iconst (pc := 58) (nI 2) dX2_set_58 (by decide) ?_
  refine j_il1n (pc := 59) dX2_set_59 ?_
  first | with_reducible refine j_imulN (pc := 60) dX2_set_60 ?_ | refine j_imul (pc := 60) dX2_set_60 ?_
  refine j_il2n (pc := 61) dX2_set_61 ?_
  first | with_reducible refine j_iaddN (pc := 62) dX2_set_62 ?_ | refine j_iadd (pc := 62) dX2_set_62 ?_
  refine j_il3n (pc := 63) dX2_set_63 ?_
  refine as2_entry (pc := 64) dX2_set_64 (by omega) ?_
  refine j_al0n (pc := 65) dX2_set_65 ?_
  refine j_iconst (pc := 66) (nI 0) dX2_set_66 (by decide) ?_
  refine p2_at (pc := 67) dX2_set_67 ?_
  refine j_il4 (pc := 70) dX2_set_70 ?_
  refine j_iret R dX2_set_72 ⟨hr.symm, ?_⟩
  have eE : ∀ k, E_set n E (nI s) (nI b) (nI v) k = if k = 2 * s + b then v else E k := by
    intro k
    simp only [E_set, hok, cl_nI (show s < 2 ^ 31 by omega), cl_nI (show b < 2 ^ 31 by omega), cl_nI (show v < 2 ^ 31 by omega), true_and]
  have eS : st_set n st (nI s) (nI b) (nI v) = 1 := by simp [st_set, hok]
  rw [eS]
  refine ⟨⟨h2, h5, fun k => ?_, fun k hk => ?_, ?_⟩, by omega, ?_⟩
  · rw [eE]
    have := hE3 k
    split <;> omega
  · rw [eE, wset_i _ _ (by decide)]
    split
    · rename_i q
      rw [q, wset_s]
    · rename_i q
      rw [wset_k _ _ q]
      exact hE k hk
  · rw [wset_k _ _ (by decide), wset_i _ _ (by decide)]
    exact hn
  · rw [wset_s]
    rfl
theorem lv0 {E : Nat → Nat} {s t : Nat} : (if lvl E 25 s t = 1000 then 0 else lvl E 25 s t) = 0 ↔ lvl E 25 s t = 1000 := by
  constructor
  · intro q
    by_cases e : lvl E 25 s t = 1000
    · exact e
    · rw [if_neg e] at q
      rcases lvl_or E 25 s t with r | r
      · exact r
      · omega
  · intro q
    rw [if_pos q]
theorem lv_b {E : Nat → Nat} {s t : Nat} : (if lvl E 25 s t = 1000 then 0 else lvl E 25 s t) < 2 ^ 31 := by
  have := lvl_le E (k := 25) (by omega) s t
  split <;> omega
set_option maxHeartbeats 1000000 in
theorem m2_compatible (iv : Inv2 n E st w) (x y : Int32) : Mi l D (K2 h d) yX2_compatible cX2_compatible 3 4 (some .int) [.ref (h 0), .int x, .int y] w (fun r w' => r = r_compat n E x y ∧ Inv2 n E st w') := by
  have iv' := iv
  obtain ⟨ok, hst, h1⟩ := iv
  have ok' := ok
  obtain ⟨h2, h5, hE3, hE, hn⟩ := ok
  refine Mi.of (by decide) rfl (by simp [Value.category]) (Nat.le_of_ble_eq_true rfl) (fun X R => ?_)
  refine j_al0n (pc := 0) dX2_compatible_0 ?_
  refine j_il1n (pc := 1) dX2_compatible_1 ?_
  refine cl2_badState (pc := 2) dX2_compatible_2 (m2_badState ok' x) (fun r w' e => ?_)
  obtain ⟨rfl, rfl⟩ := e
  refine j_if_neB (pc := 5) 16 dX2_compatible_5 (by decide) (fun c => ?_) (fun c => ?_)
  · refine j_iconst (pc := 16) (-1) dX2_compatible_16 (by decide) ?_
    exact j_iret R dX2_compatible_17 (⟨by rw [r_compat, if_pos (nt_t c)], iv'⟩)
  have c := nt_f c
  refine j_al0n (pc := 8) dX2_compatible_8 ?_
  refine j_il2n (pc := 9) dX2_compatible_9 ?_
  refine cl2_badState (pc := 10) dX2_compatible_10 (m2_badState ok' y) (fun r w' e => ?_)
  obtain ⟨rfl, rfl⟩ := e
  refine j_if_eqB (pc := 13) 18 dX2_compatible_13 (by decide) (fun c2 => ?_) (fun c2 => ?_)
  rotate_left
  · refine j_iconst (pc := 16) (-1) dX2_compatible_16 (by decide) ?_
    exact j_iret R dX2_compatible_17 (⟨by rw [r_compat, if_neg (by rw [c]; decide), if_pos (nt_t c2)], iv'⟩)
  have c2 := nt_f c2
  have hr : r_compat n E x y = bI (decide (lvl E 25 (cl x) (cl y) = 1000)) := by rw [r_compat, if_neg (by rw [c]; decide), if_neg (by rw [c2]; decide)]
  obtain ⟨s, -, hs, rfl⟩ := inR_nI c (by omega)
  obtain ⟨t, -, ht, rfl⟩ := inR_nI c2 (by omega)
  rw [cl_nI (by omega), cl_nI (by omega)] at hr
  refine j_al0n (pc := 18) dX2_compatible_18 ?_
  refine j_il1n (pc := 19) dX2_compatible_19 ?_
  refine j_il2n (pc := 20) dX2_compatible_20 ?_
  refine cl2_shortest (pc := 21) dX2_compatible_21 (m2_shortest ok' hs ht) (fun r w' e => ?_)
  obtain ⟨rfl, rfl⟩ := e
  refine j_if_neN (pc := 24) 31 dX2_compatible_24 (by decide) lv_b (fun c3 => ?_) (fun c3 => ?_)
  · refine j_iconst (pc := 31) (bI false) dX2_compatible_31 (by decide) ?_
    exact j_iret R dX2_compatible_32 (⟨by rw [hr, decide_eq_false (fun q => c3 (lv0.mpr q))], iv'⟩)
  · refine j_iconst (pc := 27) (bI true) dX2_compatible_27 (by decide) ?_
    refine j_goto (pc := 28) 32 dX2_compatible_28 (by decide) ?_
    exact j_iret R dX2_compatible_32 (⟨by rw [hr, decide_eq_true (lv0.mp c3)], iv'⟩)
set_option maxHeartbeats 1000000 in
theorem m2_splitLength (iv : Inv2 n E st w) (x y : Int32) : Mi l D (K2 h d) yX2_splitLength cX2_splitLength 4 4 (some .int) [.ref (h 0), .int x, .int y] w (fun r w' => r = r_len n E x y ∧ Inv2 n E st w') := by
  have iv' := iv
  obtain ⟨ok, hst, h1⟩ := iv
  have ok' := ok
  obtain ⟨h2, h5, hE3, hE, hn⟩ := ok
  refine Mi.of (by decide) rfl (by simp [Value.category]) (Nat.le_of_ble_eq_true rfl) (fun X R => ?_)
  refine j_al0n (pc := 0) dX2_splitLength_0 ?_
  refine j_il1n (pc := 1) dX2_splitLength_1 ?_
  refine cl2_badState (pc := 2) dX2_splitLength_2 (m2_badState ok' x) (fun r w' e => ?_)
  obtain ⟨rfl, rfl⟩ := e
  refine j_if_neB (pc := 5) 16 dX2_splitLength_5 (by decide) (fun c => ?_) (fun c => ?_)
  · refine j_iconst (pc := 16) (-1) dX2_splitLength_16 (by decide) ?_
    exact j_iret R dX2_splitLength_17 (⟨by rw [r_len, if_pos (nt_t c)], iv'⟩)
  have c := nt_f c
  refine j_al0n (pc := 8) dX2_splitLength_8 ?_
  refine j_il2n (pc := 9) dX2_splitLength_9 ?_
  refine cl2_badState (pc := 10) dX2_splitLength_10 (m2_badState ok' y) (fun r w' e => ?_)
  obtain ⟨rfl, rfl⟩ := e
  refine j_if_eqB (pc := 13) 18 dX2_splitLength_13 (by decide) (fun c2 => ?_) (fun c2 => ?_)
  rotate_left
  · refine j_iconst (pc := 16) (-1) dX2_splitLength_16 (by decide) ?_
    exact j_iret R dX2_splitLength_17 (⟨by rw [r_len, if_neg (by rw [c]; decide), if_pos (nt_t c2)], iv'⟩)
  have c2 := nt_f c2
  have hr : r_len n E x y = if lvl E 25 (cl x) (cl y) = 1000 then -2 else nI (lvl E 25 (cl x) (cl y)) := by rw [r_len, if_neg (by rw [c]; decide), if_neg (by rw [c2]; decide)]
  obtain ⟨s, -, hs, rfl⟩ := inR_nI c (by omega)
  obtain ⟨t, -, ht, rfl⟩ := inR_nI c2 (by omega)
  rw [cl_nI (by omega), cl_nI (by omega)] at hr
  refine j_al0n (pc := 18) dX2_splitLength_18 ?_
  refine j_il1n (pc := 19) dX2_splitLength_19 ?_
  refine j_il2n (pc := 20) dX2_splitLength_20 ?_
  refine cl2_shortest (pc := 21) dX2_splitLength_21 (m2_shortest ok' hs ht) (fun r w' e => ?_)
  obtain ⟨rfl, rfl⟩ := e
  first | refine j_st3n_s (pc := 24) dX2_splitLength_24 ?_ | refine j_st3n_a (pc := 24) dX2_splitLength_24 ?_
  refine j_il3n (pc := 25) dX2_splitLength_25 ?_
  refine j_if_neN (pc := 26) 34 dX2_splitLength_26 (by decide) lv_b (fun c3 => ?_) (fun c3 => ?_)
  · have c4 : ¬ lvl E 25 s t = 1000 := fun q => c3 (lv0.mpr q)
    refine j_il3n (pc := 34) dX2_splitLength_34 ?_
    exact j_iret R dX2_splitLength_35 (⟨by rw [hr, if_neg c4, if_neg c4], iv'⟩)
  · refine j_bipush (pc := 29) (-2) dX2_splitLength_29 (by decide) ?_
    refine j_goto (pc := 31) 35 dX2_splitLength_31 (by decide) ?_
    exact j_iret R dX2_splitLength_35 (⟨by rw [hr, if_pos (lv0.mp c3)], iv'⟩)
set_option maxHeartbeats 1000000 in
theorem m2_splitWord (iv : Inv2 n E st w) (x y : Int32) : Mi l D (K2 h d) yX2_splitWord cX2_splitWord 4 4 (some .int) [.ref (h 0), .int x, .int y] w (fun r w' => r = r_word n E x y ∧ Inv2 n E st w') := by
  have iv' := iv
  obtain ⟨ok, hst, h1⟩ := iv
  have ok' := ok
  obtain ⟨h2, h5, hE3, hE, hn⟩ := ok
  have h10 := nn1_le h5
  refine Mi.of (by decide) rfl (by simp [Value.category]) (Nat.le_of_ble_eq_true rfl) (fun X R => ?_)
  refine j_al0n (pc := 0) dX2_splitWord_0 ?_
  refine j_il1n (pc := 1) dX2_splitWord_1 ?_
  refine cl2_badState (pc := 2) dX2_splitWord_2 (m2_badState ok' x) (fun r w' e => ?_)
  obtain ⟨rfl, rfl⟩ := e
  refine j_if_neB (pc := 5) 16 dX2_splitWord_5 (by decide) (fun c => ?_) (fun c => ?_)
  · refine j_iconst (pc := 16) (-1) dX2_splitWord_16 (by decide) ?_
    exact j_iret R dX2_splitWord_17 (⟨by rw [r_word, if_pos (nt_t c)], iv'⟩)
  have c := nt_f c
  refine j_al0n (pc := 8) dX2_splitWord_8 ?_
  refine j_il2n (pc := 9) dX2_splitWord_9 ?_
  refine cl2_badState (pc := 10) dX2_splitWord_10 (m2_badState ok' y) (fun r w' e => ?_)
  obtain ⟨rfl, rfl⟩ := e
  refine j_if_eqB (pc := 13) 18 dX2_splitWord_13 (by decide) (fun c2 => ?_) (fun c2 => ?_)
  rotate_left
  · refine j_iconst (pc := 16) (-1) dX2_splitWord_16 (by decide) ?_
    exact j_iret R dX2_splitWord_17 (⟨by rw [r_word, if_neg (by rw [c]; decide), if_pos (nt_t c2)], iv'⟩)
  have c2 := nt_f c2
  have hr : r_word n E x y = if lvl E 25 (cl x) (cl y) = 1000 then -2 else nI (gw E (lvl E 25 (cl x) (cl y)) (cl x) (cl y)) := by rw [r_word, if_neg (by rw [c]; decide), if_neg (by rw [c2]; decide)]
  obtain ⟨s, -, hs, rfl⟩ := inR_nI c (by omega)
  obtain ⟨t, -, ht, rfl⟩ := inR_nI c2 (by omega)
  rw [cl_nI (by omega), cl_nI (by omega)] at hr
  refine j_al0n (pc := 18) dX2_splitWord_18 ?_
  refine j_il1n (pc := 19) dX2_splitWord_19 ?_
  refine j_il2n (pc := 20) dX2_splitWord_20 ?_
  refine cl2_shortest (pc := 21) dX2_splitWord_21 (m2_shortest ok' hs ht) (fun r w' e => ?_)
  obtain ⟨rfl, rfl⟩ := e
  first | refine j_st3n_s (pc := 24) dX2_splitWord_24 ?_ | refine j_st3n_a (pc := 24) dX2_splitWord_24 ?_
  refine j_il3n (pc := 25) dX2_splitWord_25 ?_
  refine j_if_neN (pc := 26) 34 dX2_splitWord_26 (by decide) lv_b (fun c3 => ?_) (fun c3 => ?_)
  · have c4 : ¬ lvl E 25 s t = 1000 := fun q => c3 (lv0.mpr q)
    have hpr := lvl_pairs hE3 h2 h5 hs ht c4
    have hge : 1 ≤ lvl E 25 s t := by rcases lvl_or E 25 s t with q | q <;> omega
    have hle : lvl E 25 s t ≤ 25 := by rcases lvl_or E 25 s t with q | q <;> omega
    have hsp := ((lvl_eq E (k := 25) (j := lvl E 25 s t) (by omega) hge hle).mp rfl).1
    rw [if_neg c4]
    rw [if_neg c4] at hr
    generalize lvl E 25 s t = Lv at hr hpr hge hle hsp c4 ⊢
    refine j_al0n (pc := 34) dX2_splitWord_34 ?_
    refine j_il1n (pc := 35) dX2_splitWord_35 ?_
    refine j_il2n (pc := 36) dX2_splitWord_36 ?_
    refine j_il3n (pc := 37) dX2_splitWord_37 ?_
    refine cl2_splitter (pc := 38) dX2_splitWord_38 (m2_splitter ok' hs ht hge (by omega)) (fun r w' e => ?_)
    obtain ⟨rfl, rfl⟩ := e
    rw [fwd_eq hge, if_pos hsp]
    exact j_iret R dX2_splitWord_41 (⟨by rw [hr]; rfl, iv'⟩)
  · refine j_bipush (pc := 29) (-2) dX2_splitWord_29 (by decide) ?_
    refine j_goto (pc := 31) 41 dX2_splitWord_31 (by decide) ?_
    exact j_iret R dX2_splitWord_41 (⟨by rw [hr, if_pos (lv0.mp c3)], iv'⟩)
set_option maxHeartbeats 1000000 in
theorem m2_compatibleSet (iv : Inv2 n E st w) (x : Int32) : Mi l D (K2 h d) yX2_compatibleSet cX2_compatibleSet 2 5 (some .int) [.ref (h 0), .int x] w (fun r w' => r = r_cset n E x ∧ Inv2 n E st w') := by
  have iv' := iv
  obtain ⟨ok, hst, h1⟩ := iv
  have ok' := ok
  obtain ⟨h2, h5, hE3, hE, hn⟩ := ok
  have hp := p2_le h5
  refine Mi.of (by decide) rfl (by simp [Value.category]) (Nat.le_of_ble_eq_true rfl) (fun X R => ?_)
  refine j_al0n (pc := 0) dX2_compatibleSet_0 ?_
  refine j_il1n (pc := 1) dX2_compatibleSet_1 ?_
  refine cl2_badSet (pc := 2) dX2_compatibleSet_2 (m2_badSet ok' x) (fun r w' e => ?_)
  obtain ⟨rfl, rfl⟩ := e
  refine j_if_eqB (pc := 5) 10 dX2_compatibleSet_5 (by decide) (fun c => ?_) (fun c => ?_)
  rotate_left
  · refine j_iconst (pc := 8) (-1) dX2_compatibleSet_8 (by decide) ?_
    exact j_iret R dX2_compatibleSet_9 (⟨by rw [r_cset, if_pos (nt_t c)], iv'⟩)
  have c := nt_f c
  have hr : r_cset n E x = bI (hold n (lvl E 25) (cl x)) := by rw [r_cset, if_neg (by rw [c]; decide)]
  obtain ⟨s, -, hs, rfl⟩ := inR_nI c (by omega)
  rw [cl_nI (by omega)] at hr
  refine j_al0n (pc := 10) dX2_compatibleSet_10 ?_
  refine cl2_tabulate (pc := 11) dX2_compatibleSet_11 (m2_tabulate ok') (fun w2 e => ?_)
  obtain ⟨f1, hf⟩ := e
  have iv2 : Inv2 n E st w2 := iv'.fr (f1 0 (by decide)) (by rw [f1 10 (by decide)]) (by rw [f1 10 (by decide)])
  refine j_al0n (pc := 14) dX2_compatibleSet_14 ?_
  refine j_il1n (pc := 15) dX2_compatibleSet_15 ?_
  refine cl2_agreeing (pc := 16) dX2_compatibleSet_16 (m2_agreeing iv2.1 hf (by omega)) (fun r w' e => ?_)
  obtain ⟨rfl, rfl⟩ := e
  refine j_if_eqB (pc := 19) 26 dX2_compatibleSet_19 (by decide) (fun c2 => ?_) (fun c2 => ?_)
  · refine j_iconst (pc := 26) (bI false) dX2_compatibleSet_26 (by decide) ?_
    exact j_iret R dX2_compatibleSet_27 (⟨by rw [hr, c2], iv2⟩)
  · refine j_iconst (pc := 22) (bI true) dX2_compatibleSet_22 (by decide) ?_
    refine j_goto (pc := 23) 27 dX2_compatibleSet_23 (by decide) ?_
    exact j_iret R dX2_compatibleSet_27 (⟨by rw [hr, c2], iv2⟩)
set_option maxHeartbeats 1000000 in
theorem m2_implied (iv : Inv2 n E st w) (x a : Int32) : Mi l D (K2 h d) yX2_implied cX2_implied 3 2 (some .int) [.ref (h 0), .int x, .int a] w (fun r w' => r = r_impl n E x a ∧ Inv2 n E st w') := by
  have iv' := iv
  obtain ⟨ok, hst, h1⟩ := iv
  have ok' := ok
  obtain ⟨h2, h5, hE3, hE, hn⟩ := ok
  have hp := p2_le h5
  refine Mi.of (by decide) rfl (by simp [Value.category]) (Nat.le_of_ble_eq_true rfl) (fun X R => ?_)
  refine j_al0n (pc := 0) dX2_implied_0 ?_
  refine j_il1n (pc := 1) dX2_implied_1 ?_
  refine cl2_badSet (pc := 2) dX2_implied_2 (m2_badSet ok' x) (fun r w' e => ?_)
  obtain ⟨rfl, rfl⟩ := e
  refine j_if_eqB (pc := 5) 10 dX2_implied_5 (by decide) (fun c => ?_) (fun c => ?_)
  rotate_left
  · refine j_iconst (pc := 8) (-1) dX2_implied_8 (by decide) ?_
    exact j_iret R dX2_implied_9 (⟨by rw [r_impl, if_pos (nt_t c)], iv'⟩)
  have c := nt_f c
  refine j_al0n (pc := 10) dX2_implied_10 ?_
  refine j_il2n (pc := 11) dX2_implied_11 ?_
  refine cl2_badInput (pc := 12) dX2_implied_12 (m2_badInput a) (fun r w' e => ?_)
  obtain ⟨rfl, rfl⟩ := e
  refine j_if_eqB (pc := 15) 21 dX2_implied_15 (by decide) (fun c2 => ?_) (fun c2 => ?_)
  rotate_left
  · refine j_bipush (pc := 18) (-2) dX2_implied_18 (by decide) ?_
    exact j_iret R dX2_implied_20 (⟨by rw [r_impl, if_neg (by rw [c]; decide), if_pos (nt_t c2)], iv'⟩)
  have c2 := nt_f c2
  have hr : r_impl n E x a = nI (imN E (cl x) (cl a) n) := by rw [r_impl, if_neg (by rw [c]; decide), if_neg (by rw [c2]; decide)]
  obtain ⟨s, -, hs, rfl⟩ := inR_nI c (by omega)
  obtain ⟨b, -, hb, rfl⟩ := inR_nI c2 (by omega)
  rw [cl_nI (by omega), cl_nI (by omega)] at hr
  refine j_al0n (pc := 21) dX2_implied_21 ?_
  refine j_il1n (pc := 22) dX2_implied_22 ?_
  refine j_il2n (pc := 23) dX2_implied_23 ?_
  refine cl2_image (pc := 24) dX2_implied_24 (m2_image ok' (by omega) hb) (fun r w' e => ?_)
  obtain ⟨rfl, rfl⟩ := e
  exact j_iret R dX2_implied_27 (⟨hr.symm, iv'⟩)
theorem mxq_t {n : Nat} {E : Nat → Nat} {m : Nat} (hm : 1 ≤ m) (h : mxl n E m = true) : cst (mxq n E) (m + 1) = cst (mxq n E) m ++ [m] := by
  rw [cst, if_pos (by simp [mxq, hm, h])]
theorem mxq_f {n : Nat} {E : Nat → Nat} {m : Nat} (h : mxl n E m = false) : cst (mxq n E) (m + 1) = cst (mxq n E) m := by
  rw [cst, if_neg (by simp [mxq, h])]
set_option maxHeartbeats 1000000 in
theorem m2_maximals (iv : Inv2 n E st w) : Mi l D (K2 h d) yX2_maximals cX2_maximals 3 5 (some .int) [.ref (h 0)] w (fun r w' => r = nI (MX n E).length ∧ Inv2 n E st w') := by
  have iv' := iv
  obtain ⟨ok, hst, h1⟩ := iv
  have ok' := ok
  obtain ⟨h2, h5, hE3, hE, hn⟩ := ok
  have hp := p2_le h5
  have hp4 := p2_ge h2
  rw [MX_eq]
  refine Mi.of (by decide) rfl (by simp [Value.category]) (Nat.le_of_ble_eq_true rfl) (fun X R => ?_)
  refine j_al0n (pc := 0) dX2_maximals_0 ?_
  refine cl2_tabulate (pc := 1) dX2_maximals_1 (m2_tabulate ok') (fun w2 e => ?_)
  obtain ⟨f1, hf⟩ := e
  have iv2 : Inv2 n E st w2 := iv'.fr (f1 0 (by decide)) (by rw [f1 10 (by decide)]) (by rw [f1 10 (by decide)])
  have hn2 : w2 10 0 = nI n := iv2.1.2.2.2.2
  have L : ∀ m c, c + m = 2 ^ n → 1 ≤ c → J X (K2 h d) cX2_maximals 3 5 8 [.ref (h 0), .int (nI (cst (mxq n E) c).length), .int (nI c)] [] w2 := by
    intro m
    induction m with
    | zero =>
      intro c hc hc1
      obtain rfl : c = 2 ^ n := by omega
      refine j_il2n (pc := 8) dX2_maximals_8 ?_
      refine j_iconst (pc := 9) (nI 1) dX2_maximals_9 (by decide) ?_
      refine j_al0n (pc := 10) dX2_maximals_10 ?_
      refine g2_n (pc := 11) dX2_maximals_11 (by first | assumption | rfl) ?_
      refine j_ishl1 (pc := 14) dX2_maximals_14 (by omega) ?_
      refine j_icmp_geN (pc := 15) 35 dX2_maximals_15 (by decide) (by omega) (by omega) (fun c1 => ?_) (fun c1 => ?_)
      · refine j_il1n (pc := 35) dX2_maximals_35 ?_
        exact j_iret R dX2_maximals_36 (⟨rfl, iv2⟩)
      · omega
    | succ m ih =>
      intro c hc hc1
      refine j_il2n (pc := 8) dX2_maximals_8 ?_
      refine j_iconst (pc := 9) (nI 1) dX2_maximals_9 (by decide) ?_
      refine j_al0n (pc := 10) dX2_maximals_10 ?_
      refine g2_n (pc := 11) dX2_maximals_11 (by first | assumption | rfl) ?_
      refine j_ishl1 (pc := 14) dX2_maximals_14 (by omega) ?_
      refine j_icmp_geN (pc := 15) 35 dX2_maximals_15 (by decide) (by omega) (by omega) (fun c1 => ?_) (fun c1 => ?_)
      · omega
      refine j_al0n (pc := 18) dX2_maximals_18 ?_
      refine j_il2n (pc := 19) dX2_maximals_19 ?_
      refine cl2_largest (pc := 20) dX2_maximals_20 (m2_largest iv2.1 hf (by omega)) (fun r w' e => ?_)
      obtain ⟨rfl, rfl⟩ := e
      refine j_if_eqB (pc := 23) 29 dX2_maximals_23 (by decide) (fun c2 => ?_) (fun c2 => ?_)
      · refine j_inc2N (pc := 29) dX2_maximals_29 ?_
        refine j_goto (pc := 32) 8 dX2_maximals_32 (by decide) ?_
        rw [← mxq_f c2]
        exact ih (c + 1) (by omega) (by omega)
      · refine j_inc1N (pc := 26) dX2_maximals_26 ?_
        refine j_inc2N (pc := 29) dX2_maximals_29 ?_
        refine j_goto (pc := 32) 8 dX2_maximals_32 (by decide) ?_
        have := ih (c + 1) (by omega) (by omega)
        rw [mxq_t hc1 c2, List.length_append] at this
        exact this
  refine j_iconst (pc := 4) (nI 0) dX2_maximals_4 (by decide) ?_
  first | refine j_st1n_s (pc := 5) dX2_maximals_5 ?_ | refine j_st1n_a (pc := 5) dX2_maximals_5 ?_
  refine j_iconst (pc := 6) (nI 1) dX2_maximals_6 (by decide) ?_
  first | refine j_st2n_s (pc := 7) dX2_maximals_7 ?_ | refine j_st2n_a (pc := 7) dX2_maximals_7 ?_
  have := L (2 ^ n - 1) 1 (by omega) (by omega)
  exact this
set_option maxHeartbeats 1000000 in
theorem m2_maximal (iv : Inv2 n E st w) (x : Int32) : Mi l D (K2 h d) yX2_maximal cX2_maximal 4 5 (some .int) [.ref (h 0), .int x] w (fun r w' => r = r_max n E x ∧ Inv2 n E st w') := by
  have iv' := iv
  obtain ⟨ok, hst, h1⟩ := iv
  have ok' := ok
  obtain ⟨h2, h5, hE3, hE, hn⟩ := ok
  have hp := p2_le h5
  have hp4 := p2_ge h2
  have hml := MX_len (n := n) (E := E) h5
  unfold r_max
  rw [MX_eq] at hml ⊢
  refine Mi.of (by decide) rfl (by simp [Value.category]) (Nat.le_of_ble_eq_true rfl) (fun X R => ?_)
  refine j_al0n (pc := 0) dX2_maximal_0 ?_
  refine cl2_tabulate (pc := 1) dX2_maximal_1 (m2_tabulate ok') (fun w2 e => ?_)
  obtain ⟨f1, hf⟩ := e
  have iv2 : Inv2 n E st w2 := iv'.fr (f1 0 (by decide)) (by rw [f1 10 (by decide)]) (by rw [f1 10 (by decide)])
  have hn2 : w2 10 0 = nI n := iv2.1.2.2.2.2
  have hmq0 : mxq n E 0 = false := rfl
  have L : ∀ m c, c + m = 2 ^ n → 1 ≤ c → (∀ j, j < (cst (mxq n E) c).length → x ≠ nI j) → J X (K2 h d) cX2_maximal 4 5 8 [.ref (h 0), .int x, .int (nI (cst (mxq n E) c).length), .int (nI c)] [] w2 := by
    intro m
    induction m with
    | zero =>
      intro c hc hc1 hne
      obtain rfl : c = 2 ^ n := by omega
      refine j_il3n (pc := 8) dX2_maximal_8 ?_
      refine j_iconst (pc := 9) (nI 1) dX2_maximal_9 (by decide) ?_
      refine j_al0n (pc := 10) dX2_maximal_10 ?_
      refine g2_n (pc := 11) dX2_maximal_11 (by first | assumption | rfl) ?_
      refine j_ishl1 (pc := 14) dX2_maximal_14 (by omega) ?_
      refine j_icmp_geN (pc := 15) 42 dX2_maximal_15 (by decide) (by omega) (by omega) (fun c1 => ?_) (fun c1 => ?_)
      · refine j_iconst (pc := 42) (-1) dX2_maximal_42 (by decide) ?_
        refine j_iret R dX2_maximal_43 ⟨?_, iv2⟩
        rw [if_pos]
        cases hb : inR 0 (cst (mxq n E) (2 ^ n)).length x with
        | false => rfl
        | true =>
          obtain ⟨j, -, hj, e⟩ := inR_nI hb (by omega)
          exact absurd e (hne j hj)
      · omega
    | succ m ih =>
      intro c hc hc1 hne
      have hcl := cst_len hmq0 c
      refine j_il3n (pc := 8) dX2_maximal_8 ?_
      refine j_iconst (pc := 9) (nI 1) dX2_maximal_9 (by decide) ?_
      refine j_al0n (pc := 10) dX2_maximal_10 ?_
      refine g2_n (pc := 11) dX2_maximal_11 (by first | assumption | rfl) ?_
      refine j_ishl1 (pc := 14) dX2_maximal_14 (by omega) ?_
      refine j_icmp_geN (pc := 15) 42 dX2_maximal_15 (by decide) (by omega) (by omega) (fun c1 => ?_) (fun c1 => ?_)
      · omega
      refine j_al0n (pc := 18) dX2_maximal_18 ?_
      refine j_il3n (pc := 19) dX2_maximal_19 ?_
      refine cl2_largest (pc := 20) dX2_maximal_20 (m2_largest iv2.1 hf (by omega)) (fun r w' e => ?_)
      obtain ⟨rfl, rfl⟩ := e
      refine j_if_eqB (pc := 23) 36 dX2_maximal_23 (by decide) (fun c2 => ?_) (fun c2 => ?_)
      · refine j_inc3N (pc := 36) dX2_maximal_36 ?_
        refine j_goto (pc := 39) 8 dX2_maximal_39 (by decide) ?_
        rw [← mxq_f c2] at hne ⊢
        exact ih (c + 1) (by omega) (by omega) hne
      · have hc2 := mxq_t hc1 c2
        refine j_il2n (pc := 26) dX2_maximal_26 ?_
        refine j_il1n (pc := 27) dX2_maximal_27 ?_
        refine j_icmp_ne (pc := 28) 33 dX2_maximal_28 (by decide) (fun c3 => ?_) (fun c3 => ?_)
        · refine j_inc2N (pc := 33) dX2_maximal_33 ?_
          refine j_inc3N (pc := 36) dX2_maximal_36 ?_
          refine j_goto (pc := 39) 8 dX2_maximal_39 (by decide) ?_
          have := ih (c + 1) (by omega) (by omega) (by
            rw [hc2, List.length_append]
            intro j hj
            simp only [List.length_cons, List.length_nil] at hj
            by_cases e : j = (cst (mxq n E) c).length
            · rw [e]
              exact fun q => c3 q.symm
            · exact hne j (by omega))
          rw [hc2, List.length_append] at this
          exact this
        · subst c3
          have hlt : (cst (mxq n E) c).length < (cst (mxq n E) (c + 1)).length := by
            rw [hc2, List.length_append]
            simp only [List.length_cons, List.length_nil]
            omega
          have hlt2 : (cst (mxq n E) c).length < (cst (mxq n E) (2 ^ n)).length := by
            have e1 : (cst (mxq n E) (2 ^ n)).getD (cst (mxq n E) c).length 0 = c := by
              rw [cst_getD (2 ^ n) (c + 1) (by omega) hlt, hc2]
              exact getD_app_at
            rcases Nat.lt_or_ge (cst (mxq n E) c).length (cst (mxq n E) (2 ^ n)).length with q | q
            · exact q
            · rw [List.getD_eq_getElem?_getD, List.getElem?_eq_none q] at e1
              simp at e1
              omega
          refine j_il3n (pc := 31) dX2_maximal_31 ?_
          refine j_iret R dX2_maximal_32 ⟨?_, iv2⟩
          rw [if_neg (by rw [inR_of (by omega) hlt2 (by omega)]; decide), cl_nI (by omega), cst_getD (2 ^ n) (c + 1) (by omega) hlt, hc2, getD_app_at]
  refine j_iconst (pc := 4) (nI 0) dX2_maximal_4 (by decide) ?_
  first | refine j_st2n_s (pc := 5) dX2_maximal_5 ?_ | refine j_st2n_a (pc := 5) dX2_maximal_5 ?_
  refine j_iconst (pc := 6) (nI 1) dX2_maximal_6 (by decide) ?_
  first | refine j_st3n_s (pc := 7) dX2_maximal_7 ?_ | refine j_st3n_a (pc := 7) dX2_maximal_7 ?_
  exact L (2 ^ n - 1) 1 (by omega) (by omega) (fun j hj => by simp [cst, hmq0] at hj)
set_option maxHeartbeats 1000000 in
theorem m2_coverSize (iv : Inv2 n E st w) : Mi l D (K2 h d) yX2_coverSize cX2_coverSize 1 6 (some .int) [.ref (h 0)] w (fun r w' => (∃ k cv, IsB n E k cv ∧ r = nI k) ∧ Inv2 n E st w') := by
  refine Mi.of (by decide) rfl (by simp [Value.category]) (Nat.le_of_ble_eq_true rfl) (fun X R => ?_)
  refine j_al0n (pc := 0) dX2_coverSize_0 ?_
  refine cl2_best (pc := 1) dX2_coverSize_1 (m2_best iv.1) (fun w2 e => ?_)
  obtain ⟨f1, f2, k, cv, hB, e3, e4⟩ := e
  refine j_al0n (pc := 4) dX2_coverSize_4 ?_
  refine g2_size (pc := 5) dX2_coverSize_5 (e3) ?_
  exact j_iret R dX2_coverSize_8 (⟨⟨k, cv, hB, rfl⟩, iv.fr (f1 0 (by decide) (by decide) (by decide)) (f2 0 (by decide)) (f2 1 (by decide))⟩)
set_option maxHeartbeats 1000000 in
theorem m2_coverSet (iv : Inv2 n E st w) (x : Int32) : Mi l D (K2 h d) yX2_coverSet cX2_coverSet 2 6 (some .int) [.ref (h 0), .int x] w (fun r w' => (∃ k cv, IsB n E k cv ∧ r = if inR 0 k x = false then -1 else nI (cv (cl x))) ∧ Inv2 n E st w') := by
  have h5 := iv.1.2.1
  refine Mi.of (by decide) rfl (by simp [Value.category]) (Nat.le_of_ble_eq_true rfl) (fun X R => ?_)
  refine j_al0n (pc := 0) dX2_coverSet_0 ?_
  refine cl2_best (pc := 1) dX2_coverSet_1 (m2_best iv.1) (fun w2 e => ?_)
  obtain ⟨f1, f2, k, cv, hB, e3, e4⟩ := e
  have iv2 : Inv2 n E st w2 := iv.fr (f1 0 (by decide) (by decide) (by decide)) (f2 0 (by decide)) (f2 1 (by decide))
  have hk := hB.le
  refine j_il1n (pc := 4) dX2_coverSet_4 ?_
  refine j_if_lt (pc := 5) 21 dX2_coverSet_5 (by decide) (fun c => ?_) (fun c => ?_)
  · rw [i_lt0] at c
    refine j_iconst (pc := 21) (-1) dX2_coverSet_21 (by decide) ?_
    exact j_iret R dX2_coverSet_22 (⟨⟨k, cv, hB, by rw [if_pos (inR_f (by omega))]⟩, iv2⟩)
  rw [i_lt0] at c
  refine j_il1n (pc := 8) dX2_coverSet_8 ?_
  refine j_al0n (pc := 9) dX2_coverSet_9 ?_
  refine g2_size (pc := 10) dX2_coverSet_10 (e3) ?_
  refine j_icmp_ge (pc := 13) 21 dX2_coverSet_13 (by decide) (fun c2 => ?_) (fun c2 => ?_)
  · rw [i_len (by omega)] at c2
    refine j_iconst (pc := 21) (-1) dX2_coverSet_21 (by decide) ?_
    exact j_iret R dX2_coverSet_22 (⟨⟨k, cv, hB, by rw [if_pos (inR_f (by omega))]⟩, iv2⟩)
  rw [i_len (by omega)] at c2
  have c3 : inR 0 k x = true := inR_t (by omega) (by omega)
  have hr : (if inR 0 k x = false then -1 else nI (cv (cl x))) = nI (cv (cl x)) := by rw [if_neg (by rw [c3]; decide)]
  obtain ⟨i, -, hi, rfl⟩ := inR_nI c3 (by omega)
  rw [cl_nI (by omega)] at hr
  refine j_il1n (pc := 16) dX2_coverSet_16 ?_
  refine j_iconst (pc := 17) (nI 5) dX2_coverSet_17 (by decide) ?_
  refine j_icmp_ltN (pc := 18) 23 dX2_coverSet_18 (by decide) (by omega) (by omega) (fun c4 => ?_) (fun c4 => ?_)
  · refine j_al0n (pc := 23) dX2_coverSet_23 ?_
    refine g2_chosen (pc := 24) dX2_coverSet_24 ?_
    refine j_il1n (pc := 27) dX2_coverSet_27 ?_
    refine al2_chosen (pc := 28) dX2_coverSet_28 (by omega) (e4 i hi) ?_
    exact j_iret R dX2_coverSet_29 (⟨⟨k, cv, hB, by rw [cl_nI (by omega)]; exact hr.symm⟩, iv2⟩)
  · omega
set_option maxHeartbeats 1000000 in
theorem m2_read (iv : Inv2 n E st w) (x : Int32) : Mi l D (K2 h d) yX2_read cX2_read 3 1 (some .int) [.ref (h 0), .int x] w (fun r w' => r = r_read E st x ∧ Inv2 n E (st_read E st x) w') := by
  have iv' := iv
  obtain ⟨ok, hst, h1⟩ := iv
  have ok' := ok
  obtain ⟨h2, h5, hE3, hE, hn⟩ := ok
  refine Mi.of (by decide) rfl (by simp [Value.category]) (Nat.le_of_ble_eq_true rfl) (fun X R => ?_)
  refine j_al0n (pc := 0) dX2_read_0 ?_
  refine j_il1n (pc := 1) dX2_read_1 ?_
  refine cl2_badInput (pc := 2) dX2_read_2 (m2_badInput x) (fun r w' e => ?_)
  obtain ⟨rfl, rfl⟩ := e
  refine j_if_eqB (pc := 5) 10 dX2_read_5 (by decide) (fun c => ?_) (fun c => ?_)
  rotate_left
  · have c := nt_t c
    refine j_iconst (pc := 8) (-1) dX2_read_8 (by decide) ?_
    exact j_iret R dX2_read_9 (⟨by rw [r_read, if_pos c], by rw [st_read, if_pos c]; exact iv'⟩)
  have c := nt_f c
  have hr0 : r_read E st x = if st = 0 then -3 else if ot E (st - 1) (cl x) = 0 then -2 else no (ot E (st - 1) (cl x)) := by rw [r_read, if_neg (by rw [c]; decide)]
  have hs0 : st_read E st x = if st = 0 then st else nx E (st - 1) (cl x) := by rw [st_read, if_neg (by rw [c]; decide)]
  obtain ⟨a, -, ha, rfl⟩ := inR_nI c (by omega)
  rw [cl_nI (by omega)] at hr0 hs0
  refine j_al0n (pc := 10) dX2_read_10 ?_
  refine g2_at (pc := 11) dX2_read_11 (by first | assumption | rfl) ?_
  refine j_iconst (pc := 14) (-1) dX2_read_14 (by decide) ?_
  refine j_icmp_ne (pc := 15) 21 dX2_read_15 (by decide) (fun c2 => ?_) (fun c2 => ?_)
  rotate_left
  · rw [no_m1 (by omega)] at c2
    refine j_bipush (pc := 18) (-3) dX2_read_18 (by decide) ?_
    exact j_iret R dX2_read_20 (⟨by rw [hr0, if_pos c2], by rw [hs0, if_pos c2]; exact iv'⟩)
  rw [no_m1 (by omega)] at c2
  rw [if_neg c2] at hr0 hs0
  obtain ⟨s, rfl⟩ : ∃ s, st = s + 1 := ⟨st - 1, by omega⟩
  rw [show s + 1 - 1 = s from rfl] at hr0 hs0
  have g1 : w 10 1 = nI s := h1
  have ho := ot_lt E s a
  have hnx := nx_le hE3 s a
  refine j_al0n (pc := 21) dX2_read_21 ?_
  refine j_al0n (pc := 22) dX2_read_22 ?_
  refine g2_at (pc := 23) dX2_read_23 (g1) ?_
  refine j_il1n (pc := 26) dX2_read_26 ?_
  refine cl2_output (pc := 27) dX2_read_27 (m2_output ok' (by omega) ha) (fun r w' e => ?_)
  obtain ⟨rfl, rfl⟩ := e
  first | refine j_st2n_s (pc := 30) dX2_read_30 ?_ | refine j_st2n_a (pc := 30) dX2_read_30 ?_
  refine j_al0n (pc := 31) dX2_read_31 ?_
  refine j_al0n (pc := 32) dX2_read_32 ?_
  refine j_al0n (pc := 33) dX2_read_33 ?_
  refine g2_at (pc := 34) dX2_read_34 (g1) ?_
  refine j_il1n (pc := 37) dX2_read_37 ?_
  refine cl2_next (pc := 38) dX2_read_38 (m2_next ok' (by omega) ha) (fun r w' e => ?_)
  obtain ⟨rfl, rfl⟩ := e
  refine p2_at (pc := 41) dX2_read_41 ?_
  refine j_il2n (pc := 44) dX2_read_44 ?_
  refine j_iconst (pc := 45) (-1) dX2_read_45 (by decide) ?_
  have iv2 : Inv2 n E (nx E s a) (wset w 10 1 (no (nx E s a))) := ⟨ok'.fr (by rw [wset_i _ _ (by decide)]) (by rw [wset_k _ _ (by decide)]), hnx, wset_s _ _ _ _⟩
  refine j_icmp_ne (pc := 46) 54 dX2_read_46 (by decide) (fun c3 => ?_) (fun c3 => ?_)
  · rw [no_m1 (by omega)] at c3
    refine j_il2n (pc := 54) dX2_read_54 ?_
    exact j_iret R dX2_read_55 (⟨by rw [hr0, if_neg c3], by rw [hs0]; exact iv2⟩)
  · rw [no_m1 (by omega)] at c3
    refine j_bipush (pc := 49) (-2) dX2_read_49 (by decide) ?_
    refine j_goto (pc := 51) 55 dX2_read_51 (by decide) ?_
    exact j_iret R dX2_read_55 (⟨by rw [hr0, if_pos c3], by rw [hs0]; exact iv2⟩)
set_option maxHeartbeats 2000000 in
theorem m2_isCover (iv : Inv2 n E st w) (x y z : Int32) : Mi l D (K2 h d) yX2_isCover cX2_isCover 5 5 (some .int) [.ref (h 0), .int x, .int y, .int z] w (fun r w' => r = r_cov n E x y z ∧ Inv2 n E st w') := by
  have iv' := iv
  obtain ⟨ok, hst, h1⟩ := iv
  have ok' := ok
  obtain ⟨h2, h5, hE3, hE, hn⟩ := ok
  have hp := p2_le h5
  have hp4 := p2_ge h2
  refine Mi.of (by decide) rfl (by simp [Value.category]) (Nat.le_of_ble_eq_true rfl) (fun X R => ?_)
  have bad : r_cov n E x y z = -1 → J X (K2 h d) cX2_isCover 5 5 24 [.ref (h 0), .int x, .int y, .int z] [] w := by
    intro q
    refine j_iconst (pc := 24) (-1) dX2_isCover_24 (by decide) ?_
    exact j_iret R dX2_isCover_25 (⟨q.symm, iv'⟩)
  refine j_al0n (pc := 0) dX2_isCover_0 ?_
  refine j_il1n (pc := 1) dX2_isCover_1 ?_
  refine cl2_outside (pc := 2) dX2_isCover_2 (m2_outside ok' x) (fun r w' e => ?_)
  obtain ⟨rfl, rfl⟩ := e
  refine j_if_neB (pc := 5) 24 dX2_isCover_5 (by decide) (fun cA => ?_) (fun cA => ?_)
  · exact bad (by rw [r_cov, if_pos (nt_t cA)])
  have cA := nt_f cA
  refine j_al0n (pc := 8) dX2_isCover_8 ?_
  refine j_il2n (pc := 9) dX2_isCover_9 ?_
  refine cl2_outside (pc := 10) dX2_isCover_10 (m2_outside ok' y) (fun r w' e => ?_)
  obtain ⟨rfl, rfl⟩ := e
  refine j_if_neB (pc := 13) 24 dX2_isCover_13 (by decide) (fun cB => ?_) (fun cB => ?_)
  · exact bad (by rw [r_cov, if_neg (by rw [cA]; decide), if_pos (nt_t cB)])
  have cB := nt_f cB
  refine j_al0n (pc := 16) dX2_isCover_16 ?_
  refine j_il3n (pc := 17) dX2_isCover_17 ?_
  refine cl2_outside (pc := 18) dX2_isCover_18 (m2_outside ok' z) (fun r w' e => ?_)
  obtain ⟨rfl, rfl⟩ := e
  refine j_if_eqB (pc := 21) 26 dX2_isCover_21 (by decide) (fun cC => ?_) (fun cC => ?_)
  rotate_left
  · exact bad (by rw [r_cov, if_neg (by rw [cA]; decide), if_neg (by rw [cB]; decide), if_pos (nt_t cC)])
  have cC := nt_f cC
  have hr : r_cov n E x y z = if cl x ||| cl y ||| cl z = 0 then -1 else bI (isCov n E (cl x) (cl y) (cl z)) := by rw [r_cov, if_neg (by rw [cA]; decide), if_neg (by rw [cB]; decide), if_neg (by rw [cC]; decide)]
  obtain ⟨a, -, ha, rfl⟩ := inR_nI cA (by omega)
  obtain ⟨b, -, hb, rfl⟩ := inR_nI cB (by omega)
  obtain ⟨c, -, hc, rfl⟩ := inR_nI cC (by omega)
  rw [cl_nI (by omega), cl_nI (by omega), cl_nI (by omega)] at hr
  have go : ¬ a ||| b ||| c = 0 → J X (K2 h d) cX2_isCover 5 5 40 [.ref (h 0), .int (nI a), .int (nI b), .int (nI c)] [] w := by
    intro hne
    rw [if_neg hne] at hr
    refine j_al0n (pc := 40) dX2_isCover_40 ?_
    refine cl2_tabulate (pc := 41) dX2_isCover_41 (m2_tabulate ok') (fun w2 e => ?_)
    obtain ⟨f1, hf⟩ := e
    have hlen3 : ∀ m, (cst (q3 a b c) m).length ≤ 3 := fun m => by
      have := q3_len a b c m
      repeat' split at this
      all_goals omega
    have L : ∀ m v w3, v + m = 2 ^ n → 1 ≤ v → (∀ q, q ≠ 2 → q ≠ 10 → w3 q = w2 q) → (∀ j, j ≠ 2 → w3 10 j = w2 10 j) → w3 10 2 = nI (cst (q3 a b c) v).length → (∀ i, i < (cst (q3 a b c) v).length → w3 2 i = nI ((cst (q3 a b c) v).getD i 0)) → J X (K2 h d) cX2_isCover 5 5 52 [.ref (h 0), .int (nI a), .int (nI b), .int (nI c), .int (nI v)] [] w3 := by
      intro m
      induction m with
      | zero =>
        intro v w3 hv hv1 g1 g2 g3 g4
        obtain rfl : v = 2 ^ n := by omega
        have hn2 : w3 10 0 = nI n := by rw [g2 0 (by decide), f1 10 (by decide)]; exact hn
        have iv3 : Inv2 n E st w3 := iv'.fr (by rw [g1 0 (by decide) (by decide), f1 0 (by decide)]) (by rw [g2 0 (by decide), f1 10 (by decide)]) (by rw [g2 1 (by decide), f1 10 (by decide)])
        have hf3 : Fit n E w3 := fun s t hs ht => by rw [g1 1 (by decide) (by decide)]; exact hf s t hs ht
        have hl3 := hlen3 (2 ^ n)
        refine j_il4 (pc := 52) dX2_isCover_52 ?_
        refine j_iconst (pc := 54) (nI 1) dX2_isCover_54 (by decide) ?_
        refine j_al0n (pc := 55) dX2_isCover_55 ?_
        refine g2_n (pc := 56) dX2_isCover_56 (by first | assumption | rfl) ?_
        refine j_ishl1 (pc := 59) dX2_isCover_59 (by omega) ?_
        refine j_icmp_geN (pc := 60) 116 dX2_isCover_60 (by decide) (by omega) (by omega) (fun c1 => ?_) (fun c1 => ?_)
        · refine j_al0n (pc := 116) dX2_isCover_116 ?_
          refine cl2_covers (pc := 117) dX2_isCover_117 (m2_covers iv3.1 hf3 (cv := fun i => (cst (q3 a b c) (2 ^ n)).getD i 0) (k := (cst (q3 a b c) (2 ^ n)).length) (by omega) g3 (fun i hi => ⟨g4 i hi, ((cst_mem _).mp (getD_mem hi)).1⟩)) (fun r w' e => ?_)
          obtain ⟨rfl, rfl⟩ := e
          rw [covB_3 ha hb hc]
          refine j_if_eqB (pc := 120) 127 dX2_isCover_120 (by decide) (fun c2 => ?_) (fun c2 => ?_)
          · refine j_iconst (pc := 127) (bI false) dX2_isCover_127 (by decide) ?_
            exact j_iret R dX2_isCover_128 (⟨by rw [hr, c2], iv3⟩)
          · refine j_iconst (pc := 123) (bI true) dX2_isCover_123 (by decide) ?_
            refine j_goto (pc := 124) 128 dX2_isCover_124 (by decide) ?_
            exact j_iret R dX2_isCover_128 (⟨by rw [hr, c2], iv3⟩)
        · omega
      | succ m ih =>
        intro v w3 hv hv1 g1 g2 g3 g4
        have hn2 : w3 10 0 = nI n := by rw [g2 0 (by decide), f1 10 (by decide)]; exact hn
        have hl3 := hlen3 v
        have skip : ¬ (v = a ∨ v = b ∨ v = c) → J X (K2 h d) cX2_isCover 5 5 110 [.ref (h 0), .int (nI a), .int (nI b), .int (nI c), .int (nI v)] [] w3 := by
          intro q
          have e : cst (q3 a b c) (v + 1) = cst (q3 a b c) v := by rw [cst, if_neg (by simp [q3, q])]
          refine j_inc4N (pc := 110) dX2_isCover_110 ?_
          refine j_goto (pc := 113) 52 dX2_isCover_113 (by decide) ?_
          exact ih (v + 1) w3 (by omega) (by omega) g1 g2 (by rw [e]; exact g3) (by rw [e]; exact g4)
        have take : (v = a ∨ v = b ∨ v = c) → J X (K2 h d) cX2_isCover 5 5 81 [.ref (h 0), .int (nI a), .int (nI b), .int (nI c), .int (nI v)] [] w3 := by
          intro q
          have e : cst (q3 a b c) (v + 1) = cst (q3 a b c) v ++ [v] := by rw [cst, if_pos (by simp [q3, q, hv1])]
          refine j_al0n (pc := 81) dX2_isCover_81 ?_
          refine g2_size (pc := 82) dX2_isCover_82 (by first | assumption | rfl) ?_
          refine j_iconst (pc := 85) (nI 5) dX2_isCover_85 (by decide) ?_
          refine j_icmp_geN (pc := 86) 110 dX2_isCover_86 (by decide) (by omega) (by omega) (fun c5 => ?_) (fun c5 => ?_)
          · omega
          refine j_al0n (pc := 89) dX2_isCover_89 ?_
          refine g2_chosen (pc := 90) dX2_isCover_90 ?_
          refine j_al0n (pc := 93) dX2_isCover_93 ?_
          refine g2_size (pc := 94) dX2_isCover_94 (by first | assumption | rfl) ?_
          refine j_il4 (pc := 97) dX2_isCover_97 ?_
          refine as2_chosen (pc := 99) dX2_isCover_99 (by omega) ?_
          refine j_al0n (pc := 100) dX2_isCover_100 ?_
          refine j_dup (pc := 101) dX2_isCover_101 rfl ?_
          refine g2_size (pc := 102) dX2_isCover_102 ((congrFun (wset_i _ _ (by decide)) _).trans g3) ?_
          refine j_iconst (pc := 105) (nI 1) dX2_isCover_105 (by decide) ?_
          first | with_reducible refine j_iaddN (pc := 106) dX2_isCover_106 ?_ | refine j_iadd (pc := 106) dX2_isCover_106 ?_
          refine p2_size (pc := 107) dX2_isCover_107 ?_
          refine j_inc4N (pc := 110) dX2_isCover_110 ?_
          refine j_goto (pc := 113) 52 dX2_isCover_113 (by decide) ?_
          refine ih (v + 1) _ (by omega) (by omega) (fun q q1 q2 => by rw [wset_i _ _ q2, wset_i _ _ q1]; exact g1 q q1 q2) (fun j hj => by rw [wset_k _ _ hj, wset_i _ _ (by decide)]; exact g2 j hj) (by rw [wset_s, e, List.length_append]; rfl) (fun i hi => ?_)
          rw [e, List.length_append] at hi
          rw [wset_i _ _ (by decide), e]
          by_cases ei : i = (cst (q3 a b c) v).length
          · rw [ei, wset_s, getD_app_at]
          · have hi2 : i < (cst (q3 a b c) v).length := by
              simp only [List.length_cons, List.length_nil] at hi
              omega
            rw [wset_k _ _ ei, getD_app_lt hi2]
            exact g4 i hi2
        refine j_il4 (pc := 52) dX2_isCover_52 ?_
        refine j_iconst (pc := 54) (nI 1) dX2_isCover_54 (by decide) ?_
        refine j_al0n (pc := 55) dX2_isCover_55 ?_
        refine g2_n (pc := 56) dX2_isCover_56 (by first | assumption | rfl) ?_
        refine j_ishl1 (pc := 59) dX2_isCover_59 (by omega) ?_
        refine j_icmp_geN (pc := 60) 116 dX2_isCover_60 (by decide) (by omega) (by omega) (fun c1 => ?_) (fun c1 => ?_)
        · omega
        refine j_il4 (pc := 63) dX2_isCover_63 ?_
        refine j_il1n (pc := 65) dX2_isCover_65 ?_
        refine j_icmp_eqN (pc := 66) 81 dX2_isCover_66 (by decide) (by omega) (by omega) (fun c2 => ?_) (fun c2 => ?_)
        · exact take (Or.inl c2)
        refine j_il4 (pc := 69) dX2_isCover_69 ?_
        refine j_il2n (pc := 71) dX2_isCover_71 ?_
        refine j_icmp_eqN (pc := 72) 81 dX2_isCover_72 (by decide) (by omega) (by omega) (fun c3 => ?_) (fun c3 => ?_)
        · exact take (Or.inr (Or.inl c3))
        refine j_il4 (pc := 75) dX2_isCover_75 ?_
        refine j_il3n (pc := 77) dX2_isCover_77 ?_
        refine j_icmp_neN (pc := 78) 110 dX2_isCover_78 (by decide) (by omega) (by omega) (fun c4 => ?_) (fun c4 => ?_)
        · exact skip (by omega)
        · exact take (Or.inr (Or.inr c4))
    refine j_al0n (pc := 44) dX2_isCover_44 ?_
    refine j_iconst (pc := 45) (nI 0) dX2_isCover_45 (by decide) ?_
    refine p2_size (pc := 46) dX2_isCover_46 ?_
    refine j_iconst (pc := 49) (nI 1) dX2_isCover_49 (by decide) ?_
    first | refine j_st4_s (pc := 50) dX2_isCover_50 ?_ | refine j_st4_a (pc := 50) dX2_isCover_50 ?_
    have hq0 : q3 a b c 0 = false := rfl
    exact L (2 ^ n - 1) 1 _ (by omega) (by omega) (fun q q1 q2 => by rw [wset_i _ _ q2]) (fun j hj => by rw [wset_k _ _ hj]) (by rw [wset_s]; rfl) (fun i hi => by simp [cst, hq0] at hi)
  refine j_il1n (pc := 26) dX2_isCover_26 ?_
  refine j_if_neN (pc := 27) 40 dX2_isCover_27 (by decide) (by omega) (fun c1 => ?_) (fun c1 => ?_)
  · exact go (fun q => by have : a ≤ a ||| b ||| c := Nat.le_trans Nat.left_le_or Nat.left_le_or; omega)
  refine j_il2n (pc := 30) dX2_isCover_30 ?_
  refine j_if_neN (pc := 31) 40 dX2_isCover_31 (by decide) (by omega) (fun c2 => ?_) (fun c2 => ?_)
  · exact go (fun q => by have : b ≤ a ||| b ||| c := Nat.le_trans Nat.right_le_or Nat.left_le_or; omega)
  refine j_il3n (pc := 34) dX2_isCover_34 ?_
  refine j_if_neN (pc := 35) 40 dX2_isCover_35 (by decide) (by omega) (fun c3 => ?_) (fun c3 => ?_)
  · exact go (fun q => by have : c ≤ a ||| b ||| c := Nat.right_le_or; omega)
  · subst c1
    subst c2
    subst c3
    refine j_iconst (pc := 38) (-1) dX2_isCover_38 (by decide) ?_
    exact j_iret R dX2_isCover_39 (⟨by rw [hr, if_pos (show (0 : Nat) ||| 0 ||| 0 = 0 by decide)], iv'⟩)
end S2
end
section
/-! the constructors of X1 and X2 -/
set_option maxRecDepth 100000
def ncl (x : Int32) : Nat := if x.toInt < 2 then 2 else if 5 < x.toInt then 5 else x.toInt.toNat
theorem ncl_le (x : Int32) : 2 ≤ ncl x ∧ ncl x ≤ 5 := by
  unfold ncl
  split
  · omega
  · split <;> omega
theorem ncl_eq {x : Int32} (h1 : ¬ x.toInt < 2) (h2 : ¬ 5 < x.toInt) : x = nI (ncl x) := by
  have e : ncl x = x.toInt.toNat := by unfold ncl; rw [if_neg h1, if_neg h2]
  rw [e]
  exact (i_eqn (by omega)).mpr (Int.toNat_of_nonneg (by omega)).symm
abbrev BI1 (D : va_G) (A : Nat → Prop) (h0 : Nat) (x : Int32) (u : (Nat → Nat) × (Nat → ClassId) × Wd) (t : State) : Prop := u.1 0 = h0 ∧ Inv1 (ncl x) (fun _ => 0) 1 u.2.2 ∧ va_P D vwCl (pic1 u.1 u.2.1 u.2.2) t.heap ∧ va_K D vwCl (tys1 u.2.1) t ∧ va_D A (pic1 u.1 u.2.1 u.2.2)
abbrev BI2 (D : va_G) (A : Nat → Prop) (h0 : Nat) (x : Int32) (u : (Nat → Nat) × (Nat → ClassId) × Wd) (t : State) : Prop := u.1 0 = h0 ∧ Inv2 (ncl x) (fun _ => 0) 1 u.2.2 ∧ va_P D vwCl (pic2 u.1 u.2.1 u.2.2) t.heap ∧ va_K D vwCl (tys2 u.2.1) t ∧ va_D A (pic2 u.1 u.2.1 u.2.2)
set_option maxHeartbeats 1000000 in
theorem init1_tail (X : Gm) (hh : Nat → Nat) (dd : Nat → ClassId) (x : Int32) (fin : ∀ w1 : Wd, Inv1 (ncl x) (fun _ => 0) 1 w1 → J X (K1 hh dd) cX1_init 2 0 110 [.ref (hh 0), .int x] [] w1) : J X (K1 hh dd) cX1_init 2 0 83 [.ref (hh 0), .int x] [] (fun _ _ => 0) := by
  have ivf : ∀ w1 : Wd, (∀ q, q ≠ 10 → w1 q = fun _ => 0) → (∀ j, j ≠ 0 → w1 10 j = 0) → w1 10 0 = nI (ncl x) → Inv1 (ncl x) (fun _ => 0) 1 w1 := by
    intro w1 f1 f2 f3
    have hn := ncl_le x
    refine ⟨⟨hn.1, hn.2, fun k => (show 0 < 3 * (ncl x + 1) by omega), fun k _ => by rw [f1 0 (by decide)]; rfl, f3⟩, by omega, by rw [f2 5 (by decide)]; rfl, Or.inl ⟨by rw [f2 4 (by decide)]; rfl, rfl⟩⟩
  have h94 : ∀ v : Int32, (v.toInt ≤ 5 → v = nI (ncl x)) → (5 < v.toInt → ncl x = 5) → J X (K1 hh dd) cX1_init 2 0 94 [.ref (hh 0), .int x] [.int v, .ref (hh 0)] (fun _ _ => 0) := by
    intro v hv1 hv2
    refine p1_n (pc := 94) dX1_init_94 ?_
    refine j_al0n (pc := 97) dX1_init_97 ?_
    refine g1_n (pc := 98) dX1_init_98 (wset_s _ _ _ _) ?_
    refine j_iconst (pc := 101) (nI 5) dX1_init_101 (by decide) ?_
    refine j_icmp_le (pc := 102) 110 dX1_init_102 (by decide) (fun c1 => ?_) (fun c1 => ?_)
    · rw [Int32.le_iff_toInt_le, nI_toInt (by decide)] at c1
      exact fin _ (ivf _ (fun q hq => by rw [wset_i _ _ hq]) (fun j hj => by rw [wset_k _ _ hj]) (by rw [wset_s]; exact hv1 c1))
    · rw [Int32.le_iff_toInt_le, nI_toInt (by decide)] at c1
      refine j_al0n (pc := 105) dX1_init_105 ?_
      refine j_iconst (pc := 106) (nI 5) dX1_init_106 (by decide) ?_
      refine p1_n (pc := 107) dX1_init_107 ?_
      exact fin _ (ivf _ (fun q hq => by rw [wset_i _ _ hq, wset_i _ _ hq]) (fun j hj => by rw [wset_k _ _ hj, wset_k _ _ hj]) (by rw [wset_s, hv2 (by omega)]))
  refine j_al0n (pc := 83) dX1_init_83 ?_
  refine j_il1n (pc := 84) dX1_init_84 ?_
  refine j_iconst (pc := 85) (nI 2) dX1_init_85 (by decide) ?_
  refine j_icmp_ge (pc := 86) 93 dX1_init_86 (by decide) (fun c1 => ?_) (fun c1 => ?_)
  · rw [i_len (by decide)] at c1
    refine j_il1n (pc := 93) dX1_init_93 ?_
    exact h94 x (fun q => ncl_eq (by omega) (by omega)) (fun q => by unfold ncl; rw [if_neg (by omega), if_pos q])
  · rw [i_len (by decide)] at c1
    have e2 : ncl x = 2 := by unfold ncl; rw [if_pos (by omega)]
    refine j_iconst (pc := 89) (nI 2) dX1_init_89 (by decide) ?_
    refine j_goto (pc := 90) 94 dX1_init_90 (by decide) ?_
    exact h94 (nI 2) (fun _ => by rw [e2]) (fun q => by rw [nI_toInt (by decide)] at q; omega)
set_option maxHeartbeats 1000000 in
theorem init2_tail (X : Gm) (hh : Nat → Nat) (dd : Nat → ClassId) (x : Int32) (fin : ∀ w1 : Wd, Inv2 (ncl x) (fun _ => 0) 1 w1 → J X (K2 hh dd) cX2_init 2 0 50 [.ref (hh 0), .int x] [] w1) : J X (K2 hh dd) cX2_init 2 0 27 [.ref (hh 0), .int x] [] (fun _ _ => 0) := by
  have h47 : ∀ v : Int32, v = nI (ncl x) → J X (K2 hh dd) cX2_init 2 0 47 [.ref (hh 0), .int x] [.int v, .ref (hh 0)] (fun _ _ => 0) := by
    intro v hv
    have hn := ncl_le x
    refine p2_n (pc := 47) dX2_init_47 ?_
    refine fin _ ⟨⟨hn.1, hn.2, fun k => (show 0 < 3 * (ncl x + 1) by omega), fun k _ => by rw [wset_i _ _ (by decide)]; rfl, by rw [wset_s]; exact hv⟩, by omega, by rw [wset_k _ _ (by decide)]; rfl⟩
  refine j_al0n (pc := 27) dX2_init_27 ?_
  refine j_il1n (pc := 28) dX2_init_28 ?_
  refine j_iconst (pc := 29) (nI 2) dX2_init_29 (by decide) ?_
  refine j_icmp_ge (pc := 30) 37 dX2_init_30 (by decide) (fun c1 => ?_) (fun c1 => ?_)
  · rw [i_len (by decide)] at c1
    refine j_il1n (pc := 37) dX2_init_37 ?_
    refine j_iconst (pc := 38) (nI 5) dX2_init_38 (by decide) ?_
    refine j_icmp_le (pc := 39) 46 dX2_init_39 (by decide) (fun c2 => ?_) (fun c2 => ?_)
    · rw [Int32.le_iff_toInt_le, nI_toInt (by decide)] at c2
      refine j_il1n (pc := 46) dX2_init_46 ?_
      exact h47 x (ncl_eq (by omega) (by omega))
    · rw [Int32.le_iff_toInt_le, nI_toInt (by decide)] at c2
      refine j_iconst (pc := 42) (nI 5) dX2_init_42 (by decide) ?_
      refine j_goto (pc := 43) 47 dX2_init_43 (by decide) ?_
      exact h47 (nI 5) (by unfold ncl; rw [if_neg (by omega), if_pos (by omega)])
  · rw [i_len (by decide)] at c1
    refine j_iconst (pc := 33) (nI 2) dX2_init_33 (by decide) ?_
    refine j_goto (pc := 34) 47 dX2_init_34 (by decide) ?_
    exact h47 (nI 2) (by unfold ncl; rw [if_pos (by omega)])
abbrev blank1 : List Value := [.null, .null, .null, .null, .null, .null, .null, .null, .null, .null, .int 0, .int 0, .int 0, .int 0, .int 0, .int 0, .int 0]
theorem blank1_ok : ∀ j, j < 17 → defaultValue (tyX1 j) = vp_V blank1 j := by
  intro j hj
  match j, hj with
  | 0, _ => rfl
  | 1, _ => rfl
  | 2, _ => rfl
  | 3, _ => rfl
  | 4, _ => rfl
  | 5, _ => rfl
  | 6, _ => rfl
  | 7, _ => rfl
  | 8, _ => rfl
  | 9, _ => rfl
  | 10, _ => rfl
  | 11, _ => rfl
  | 12, _ => rfl
  | 13, _ => rfl
  | 14, _ => rfl
  | 15, _ => rfl
  | 16, _ => rfl
  | j + 17, hj => omega
set_option maxHeartbeats 4000000 in
theorem m1_init (l : Launch) (D : va_G) (h0 sz : Nat) (x : Int32) : Met l yX1_init (ws_ yX1_init cX1_init 2 none) ({ frames := 1, cells := 10, slots := 166, locals := 32 }) (va_Pc [.ref h0, .int x] (fun U => U.heap.size = sz ∧ va_P D vwCl [(h0, .inr (0, blank1))] U.heap ∧ va_K D vwCl [] U ∧ va_D (fun _ => True) [(h0, .inr (0, blank1))])) (va_Qv (fun _ : (Nat → Nat) × (Nat → ClassId) × Wd => True) (BI1 D (va_A [(h0, .inr (0, blank1))] sz) h0 x) (va_A [(h0, .inr (0, blank1))] sz)) 10 166 (va_A [(h0, .inr (0, blank1))] sz) := by
  refine Met.ofW (cc := cX1_init) (maxL := 2) (ret := none) (by decide) rfl ?_
  intro p e s m args below meth c s₁ B hml hv
  obtain ⟨rfl, hsz, hP, hK, hD0⟩ := hv
  have hx := B.exec
  have hb := B.bytes
  have hr := B.returns
  have hts := atoms_spec (ws := ws_ yX1_init cX1_init 2 none) B.pre
  have hts : ∀ w ∈ lw_all, w.before _ s = true := fun w h => hts w (List.mem_cons_of_mem _ h)
  have hown : s.vm.findClass RX1 = some m.cls := findClass_of_methodNamed B.named
  have hin : meth.name = "<init>" := (name_of_methodNamed B.named B.method).1
  subst hsz
  have hD := hD0.self (sz := s.heap.size)
  generalize hAe : va_A [(h0, .inr (0, blank1))] s.heap.size = A at hD ⊢
  have hA : ∀ q : Nat, s.heap.size ≤ q → A q := fun q h => by rw [← hAe]; exact Or.inr h
  have hS : va_S A s.heap s.heap [] := va_S.rf
  have hl := lv_entry ([.ref h0, .int x]) (n := 2) (Nat.le_of_ble_eq_true rfl)
  rw [lg_entry_eq]
  generalize (lg_sl ([.ref h0, .int x]) ++ List.replicate (2 - (lg_sl ([.ref h0, .int x])).length) Slot.unset).toArray = ls at hl ⊢
  have hLH : LH ls 2 [.ref h0, .int x] := LH_entry (by simp [Value.category]) hl
  have hl : lv_has ls 2 [(0, .ref h0), (1, .int x)] := hl
  refine lv_aload_n hx hb dX1_init_0 rfl (lv_at hl 0 rfl) ?_
  refine W.objInit hx hb hown (hts _ q44) (hts _ q45) (hts _ q46) rfl (by rw [hml]; exact hl.1) rfl dX1_init_1 (Nat.le_of_ble_eq_true rfl) (Nat.le_of_ble_eq_true rfl) ?_
  refine W.eq (g2 := F0 m 4 ls []) rfl ?_
  refine lv_aload_n hx hb dX1_init_4 rfl (lv_at hl 0 rfl) ?_
  refine lv_bipush (v := 10) hx hb dX1_init_5 (by decide) ?_
  refine va_newa (atype := .int) (ty := .int) (N' := 10) (a0 := (10, .inl (fun _ => 0))) hx hb (hts _ q99) rfl hK hP hD hS hA (fun _ => rfl) (by decide) (by decide) (by decide) (Nat.le_of_ble_eq_true rfl) (Nat.le_of_ble_eq_true rfl) dX1_init_7 (fun a0 c0 H hK hP hD hS => ?_)
  have hP : va_P D vwCl [(h0, .inr (0, [.null, .null, .null, .null, .null, .null, .null, .null, .null, .null, .int 0, .int 0, .int 0, .int 0, .int 0, .int 0, .int 0])), (a0, .inl (c0, 10, .inl (fun _ => 0)))] H := hP
  have hD : va_D A [(h0, .inr (0, [.null, .null, .null, .null, .null, .null, .null, .null, .null, .null, .int 0, .int 0, .int 0, .int 0, .int 0, .int 0, .int 0])), (a0, .inl (c0, 10, .inl (fun _ => 0)))] := hD
  have hK : va_K D vwCl [(c0, .int)] s := hK
  refine va_putF (D := D) (ci := 0) (v := .ref a0) (ty := .array .int) (C := RX1) (T := TX1) (N := 17) hx hb hts in_X1 tyX1 tyX1_ok nmX1 hown hK hP hD hS 0 rfl rfl 0 (by decide) (hts _ q47) (fun _ h9 => h9) rfl hin rfl (by decide +kernel) rfl rfl (Nat.le_of_ble_eq_true rfl) dX1_init_9 (fun H locs hP hD hS => ?_)
  have hP : va_P D vwCl [(h0, .inr (0, [.ref a0, .null, .null, .null, .null, .null, .null, .null, .null, .null, .int 0, .int 0, .int 0, .int 0, .int 0, .int 0, .int 0])), (a0, .inl (c0, 10, .inl (fun _ => 0)))] H := hP
  have hD : va_D A [(h0, .inr (0, [.ref a0, .null, .null, .null, .null, .null, .null, .null, .null, .null, .int 0, .int 0, .int 0, .int 0, .int 0, .int 0, .int 0])), (a0, .inl (c0, 10, .inl (fun _ => 0)))] := hD
  refine lv_aload_n hx hb dX1_init_12 rfl (lv_at hl 0 rfl) ?_
  refine lv_bipush (v := 25) hx hb dX1_init_13 (by decide) ?_
  refine va_newa (atype := .int) (ty := .int) (N' := 25) (a0 := (25, .inl (fun _ => 0))) hx hb (hts _ q99) rfl hK hP hD hS hA (fun _ => rfl) (by decide) (by decide) (by decide) (Nat.le_of_ble_eq_true rfl) (Nat.le_of_ble_eq_true rfl) dX1_init_15 (fun a1 c1 H hK hP hD hS => ?_)
  have hP : va_P D vwCl [(h0, .inr (0, [.ref a0, .null, .null, .null, .null, .null, .null, .null, .null, .null, .int 0, .int 0, .int 0, .int 0, .int 0, .int 0, .int 0])), (a0, .inl (c0, 10, .inl (fun _ => 0))), (a1, .inl (c1, 25, .inl (fun _ => 0)))] H := hP
  have hD : va_D A [(h0, .inr (0, [.ref a0, .null, .null, .null, .null, .null, .null, .null, .null, .null, .int 0, .int 0, .int 0, .int 0, .int 0, .int 0, .int 0])), (a0, .inl (c0, 10, .inl (fun _ => 0))), (a1, .inl (c1, 25, .inl (fun _ => 0)))] := hD
  have hK : va_K D vwCl [(c0, .int), (c1, .int)] s := hK
  refine va_putF (D := D) (ci := 0) (v := .ref a1) (ty := .array .int) (C := RX1) (T := TX1) (N := 17) hx hb hts in_X1 tyX1 tyX1_ok nmX1 hown hK hP hD hS 0 rfl rfl 1 (by decide) (hts _ q48) (fun _ h9 => h9) rfl hin rfl (by decide +kernel) rfl rfl (Nat.le_of_ble_eq_true rfl) dX1_init_17 (fun H locs hP hD hS => ?_)
  have hP : va_P D vwCl [(h0, .inr (0, [.ref a0, .ref a1, .null, .null, .null, .null, .null, .null, .null, .null, .int 0, .int 0, .int 0, .int 0, .int 0, .int 0, .int 0])), (a0, .inl (c0, 10, .inl (fun _ => 0))), (a1, .inl (c1, 25, .inl (fun _ => 0)))] H := hP
  have hD : va_D A [(h0, .inr (0, [.ref a0, .ref a1, .null, .null, .null, .null, .null, .null, .null, .null, .int 0, .int 0, .int 0, .int 0, .int 0, .int 0, .int 0])), (a0, .inl (c0, 10, .inl (fun _ => 0))), (a1, .inl (c1, 25, .inl (fun _ => 0)))] := hD
  refine lv_aload_n hx hb dX1_init_20 rfl (lv_at hl 0 rfl) ?_
  refine lv_bipush (v := 31) hx hb dX1_init_21 (by decide) ?_
  refine va_newa (atype := .int) (ty := .int) (N' := 31) (a0 := (31, .inl (fun _ => 0))) hx hb (hts _ q99) rfl hK hP hD hS hA (fun _ => rfl) (by decide) (by decide) (by decide) (Nat.le_of_ble_eq_true rfl) (Nat.le_of_ble_eq_true rfl) dX1_init_23 (fun a2 c2 H hK hP hD hS => ?_)
  have hP : va_P D vwCl [(h0, .inr (0, [.ref a0, .ref a1, .null, .null, .null, .null, .null, .null, .null, .null, .int 0, .int 0, .int 0, .int 0, .int 0, .int 0, .int 0])), (a0, .inl (c0, 10, .inl (fun _ => 0))), (a1, .inl (c1, 25, .inl (fun _ => 0))), (a2, .inl (c2, 31, .inl (fun _ => 0)))] H := hP
  have hD : va_D A [(h0, .inr (0, [.ref a0, .ref a1, .null, .null, .null, .null, .null, .null, .null, .null, .int 0, .int 0, .int 0, .int 0, .int 0, .int 0, .int 0])), (a0, .inl (c0, 10, .inl (fun _ => 0))), (a1, .inl (c1, 25, .inl (fun _ => 0))), (a2, .inl (c2, 31, .inl (fun _ => 0)))] := hD
  have hK : va_K D vwCl [(c0, .int), (c1, .int), (c2, .int)] s := hK
  refine va_putF (D := D) (ci := 0) (v := .ref a2) (ty := .array .int) (C := RX1) (T := TX1) (N := 17) hx hb hts in_X1 tyX1 tyX1_ok nmX1 hown hK hP hD hS 0 rfl rfl 2 (by decide) (hts _ q49) (fun _ h9 => h9) rfl hin rfl (by decide +kernel) rfl rfl (Nat.le_of_ble_eq_true rfl) dX1_init_25 (fun H locs hP hD hS => ?_)
  have hP : va_P D vwCl [(h0, .inr (0, [.ref a0, .ref a1, .ref a2, .null, .null, .null, .null, .null, .null, .null, .int 0, .int 0, .int 0, .int 0, .int 0, .int 0, .int 0])), (a0, .inl (c0, 10, .inl (fun _ => 0))), (a1, .inl (c1, 25, .inl (fun _ => 0))), (a2, .inl (c2, 31, .inl (fun _ => 0)))] H := hP
  have hD : va_D A [(h0, .inr (0, [.ref a0, .ref a1, .ref a2, .null, .null, .null, .null, .null, .null, .null, .int 0, .int 0, .int 0, .int 0, .int 0, .int 0, .int 0])), (a0, .inl (c0, 10, .inl (fun _ => 0))), (a1, .inl (c1, 25, .inl (fun _ => 0))), (a2, .inl (c2, 31, .inl (fun _ => 0)))] := hD
  refine lv_aload_n hx hb dX1_init_28 rfl (lv_at hl 0 rfl) ?_
  refine lv_bipush (v := 32) hx hb dX1_init_29 (by decide) ?_
  refine va_newa (atype := .int) (ty := .int) (N' := 32) (a0 := (32, .inl (fun _ => 0))) hx hb (hts _ q99) rfl hK hP hD hS hA (fun _ => rfl) (by decide) (by decide) (by decide) (Nat.le_of_ble_eq_true rfl) (Nat.le_of_ble_eq_true rfl) dX1_init_31 (fun a3 c3 H hK hP hD hS => ?_)
  have hP : va_P D vwCl [(h0, .inr (0, [.ref a0, .ref a1, .ref a2, .null, .null, .null, .null, .null, .null, .null, .int 0, .int 0, .int 0, .int 0, .int 0, .int 0, .int 0])), (a0, .inl (c0, 10, .inl (fun _ => 0))), (a1, .inl (c1, 25, .inl (fun _ => 0))), (a2, .inl (c2, 31, .inl (fun _ => 0))), (a3, .inl (c3, 32, .inl (fun _ => 0)))] H := hP
  have hD : va_D A [(h0, .inr (0, [.ref a0, .ref a1, .ref a2, .null, .null, .null, .null, .null, .null, .null, .int 0, .int 0, .int 0, .int 0, .int 0, .int 0, .int 0])), (a0, .inl (c0, 10, .inl (fun _ => 0))), (a1, .inl (c1, 25, .inl (fun _ => 0))), (a2, .inl (c2, 31, .inl (fun _ => 0))), (a3, .inl (c3, 32, .inl (fun _ => 0)))] := hD
  have hK : va_K D vwCl [(c0, .int), (c1, .int), (c2, .int), (c3, .int)] s := hK
  refine va_putF (D := D) (ci := 0) (v := .ref a3) (ty := .array .int) (C := RX1) (T := TX1) (N := 17) hx hb hts in_X1 tyX1 tyX1_ok nmX1 hown hK hP hD hS 0 rfl rfl 3 (by decide) (hts _ q50) (fun _ h9 => h9) rfl hin rfl (by decide +kernel) rfl rfl (Nat.le_of_ble_eq_true rfl) dX1_init_33 (fun H locs hP hD hS => ?_)
  have hP : va_P D vwCl [(h0, .inr (0, [.ref a0, .ref a1, .ref a2, .ref a3, .null, .null, .null, .null, .null, .null, .int 0, .int 0, .int 0, .int 0, .int 0, .int 0, .int 0])), (a0, .inl (c0, 10, .inl (fun _ => 0))), (a1, .inl (c1, 25, .inl (fun _ => 0))), (a2, .inl (c2, 31, .inl (fun _ => 0))), (a3, .inl (c3, 32, .inl (fun _ => 0)))] H := hP
  have hD : va_D A [(h0, .inr (0, [.ref a0, .ref a1, .ref a2, .ref a3, .null, .null, .null, .null, .null, .null, .int 0, .int 0, .int 0, .int 0, .int 0, .int 0, .int 0])), (a0, .inl (c0, 10, .inl (fun _ => 0))), (a1, .inl (c1, 25, .inl (fun _ => 0))), (a2, .inl (c2, 31, .inl (fun _ => 0))), (a3, .inl (c3, 32, .inl (fun _ => 0)))] := hD
  refine lv_aload_n hx hb dX1_init_36 rfl (lv_at hl 0 rfl) ?_
  refine lv_bipush (v := 31) hx hb dX1_init_37 (by decide) ?_
  refine va_newa (atype := .int) (ty := .int) (N' := 31) (a0 := (31, .inl (fun _ => 0))) hx hb (hts _ q99) rfl hK hP hD hS hA (fun _ => rfl) (by decide) (by decide) (by decide) (Nat.le_of_ble_eq_true rfl) (Nat.le_of_ble_eq_true rfl) dX1_init_39 (fun a4 c4 H hK hP hD hS => ?_)
  have hP : va_P D vwCl [(h0, .inr (0, [.ref a0, .ref a1, .ref a2, .ref a3, .null, .null, .null, .null, .null, .null, .int 0, .int 0, .int 0, .int 0, .int 0, .int 0, .int 0])), (a0, .inl (c0, 10, .inl (fun _ => 0))), (a1, .inl (c1, 25, .inl (fun _ => 0))), (a2, .inl (c2, 31, .inl (fun _ => 0))), (a3, .inl (c3, 32, .inl (fun _ => 0))), (a4, .inl (c4, 31, .inl (fun _ => 0)))] H := hP
  have hD : va_D A [(h0, .inr (0, [.ref a0, .ref a1, .ref a2, .ref a3, .null, .null, .null, .null, .null, .null, .int 0, .int 0, .int 0, .int 0, .int 0, .int 0, .int 0])), (a0, .inl (c0, 10, .inl (fun _ => 0))), (a1, .inl (c1, 25, .inl (fun _ => 0))), (a2, .inl (c2, 31, .inl (fun _ => 0))), (a3, .inl (c3, 32, .inl (fun _ => 0))), (a4, .inl (c4, 31, .inl (fun _ => 0)))] := hD
  have hK : va_K D vwCl [(c0, .int), (c1, .int), (c2, .int), (c3, .int), (c4, .int)] s := hK
  refine va_putF (D := D) (ci := 0) (v := .ref a4) (ty := .array .int) (C := RX1) (T := TX1) (N := 17) hx hb hts in_X1 tyX1 tyX1_ok nmX1 hown hK hP hD hS 0 rfl rfl 4 (by decide) (hts _ q51) (fun _ h9 => h9) rfl hin rfl (by decide +kernel) rfl rfl (Nat.le_of_ble_eq_true rfl) dX1_init_41 (fun H locs hP hD hS => ?_)
  have hP : va_P D vwCl [(h0, .inr (0, [.ref a0, .ref a1, .ref a2, .ref a3, .ref a4, .null, .null, .null, .null, .null, .int 0, .int 0, .int 0, .int 0, .int 0, .int 0, .int 0])), (a0, .inl (c0, 10, .inl (fun _ => 0))), (a1, .inl (c1, 25, .inl (fun _ => 0))), (a2, .inl (c2, 31, .inl (fun _ => 0))), (a3, .inl (c3, 32, .inl (fun _ => 0))), (a4, .inl (c4, 31, .inl (fun _ => 0)))] H := hP
  have hD : va_D A [(h0, .inr (0, [.ref a0, .ref a1, .ref a2, .ref a3, .ref a4, .null, .null, .null, .null, .null, .int 0, .int 0, .int 0, .int 0, .int 0, .int 0, .int 0])), (a0, .inl (c0, 10, .inl (fun _ => 0))), (a1, .inl (c1, 25, .inl (fun _ => 0))), (a2, .inl (c2, 31, .inl (fun _ => 0))), (a3, .inl (c3, 32, .inl (fun _ => 0))), (a4, .inl (c4, 31, .inl (fun _ => 0)))] := hD
  refine lv_aload_n hx hb dX1_init_44 rfl (lv_at hl 0 rfl) ?_
  refine lv_bipush (v := 6) hx hb dX1_init_45 (by decide) ?_
  refine va_newa (atype := .int) (ty := .int) (N' := 6) (a0 := (6, .inl (fun _ => 0))) hx hb (hts _ q99) rfl hK hP hD hS hA (fun _ => rfl) (by decide) (by decide) (by decide) (Nat.le_of_ble_eq_true rfl) (Nat.le_of_ble_eq_true rfl) dX1_init_47 (fun a5 c5 H hK hP hD hS => ?_)
  have hP : va_P D vwCl [(h0, .inr (0, [.ref a0, .ref a1, .ref a2, .ref a3, .ref a4, .null, .null, .null, .null, .null, .int 0, .int 0, .int 0, .int 0, .int 0, .int 0, .int 0])), (a0, .inl (c0, 10, .inl (fun _ => 0))), (a1, .inl (c1, 25, .inl (fun _ => 0))), (a2, .inl (c2, 31, .inl (fun _ => 0))), (a3, .inl (c3, 32, .inl (fun _ => 0))), (a4, .inl (c4, 31, .inl (fun _ => 0))), (a5, .inl (c5, 6, .inl (fun _ => 0)))] H := hP
  have hD : va_D A [(h0, .inr (0, [.ref a0, .ref a1, .ref a2, .ref a3, .ref a4, .null, .null, .null, .null, .null, .int 0, .int 0, .int 0, .int 0, .int 0, .int 0, .int 0])), (a0, .inl (c0, 10, .inl (fun _ => 0))), (a1, .inl (c1, 25, .inl (fun _ => 0))), (a2, .inl (c2, 31, .inl (fun _ => 0))), (a3, .inl (c3, 32, .inl (fun _ => 0))), (a4, .inl (c4, 31, .inl (fun _ => 0))), (a5, .inl (c5, 6, .inl (fun _ => 0)))] := hD
  have hK : va_K D vwCl [(c0, .int), (c1, .int), (c2, .int), (c3, .int), (c4, .int), (c5, .int)] s := hK
  refine va_putF (D := D) (ci := 0) (v := .ref a5) (ty := .array .int) (C := RX1) (T := TX1) (N := 17) hx hb hts in_X1 tyX1 tyX1_ok nmX1 hown hK hP hD hS 0 rfl rfl 5 (by decide) (hts _ q52) (fun _ h9 => h9) rfl hin rfl (by decide +kernel) rfl rfl (Nat.le_of_ble_eq_true rfl) dX1_init_49 (fun H locs hP hD hS => ?_)
  have hP : va_P D vwCl [(h0, .inr (0, [.ref a0, .ref a1, .ref a2, .ref a3, .ref a4, .ref a5, .null, .null, .null, .null, .int 0, .int 0, .int 0, .int 0, .int 0, .int 0, .int 0])), (a0, .inl (c0, 10, .inl (fun _ => 0))), (a1, .inl (c1, 25, .inl (fun _ => 0))), (a2, .inl (c2, 31, .inl (fun _ => 0))), (a3, .inl (c3, 32, .inl (fun _ => 0))), (a4, .inl (c4, 31, .inl (fun _ => 0))), (a5, .inl (c5, 6, .inl (fun _ => 0)))] H := hP
  have hD : va_D A [(h0, .inr (0, [.ref a0, .ref a1, .ref a2, .ref a3, .ref a4, .ref a5, .null, .null, .null, .null, .int 0, .int 0, .int 0, .int 0, .int 0, .int 0, .int 0])), (a0, .inl (c0, 10, .inl (fun _ => 0))), (a1, .inl (c1, 25, .inl (fun _ => 0))), (a2, .inl (c2, 31, .inl (fun _ => 0))), (a3, .inl (c3, 32, .inl (fun _ => 0))), (a4, .inl (c4, 31, .inl (fun _ => 0))), (a5, .inl (c5, 6, .inl (fun _ => 0)))] := hD
  refine lv_aload_n hx hb dX1_init_52 rfl (lv_at hl 0 rfl) ?_
  refine lv_bipush (v := 6) hx hb dX1_init_53 (by decide) ?_
  refine va_newa (atype := .int) (ty := .int) (N' := 6) (a0 := (6, .inl (fun _ => 0))) hx hb (hts _ q99) rfl hK hP hD hS hA (fun _ => rfl) (by decide) (by decide) (by decide) (Nat.le_of_ble_eq_true rfl) (Nat.le_of_ble_eq_true rfl) dX1_init_55 (fun a6 c6 H hK hP hD hS => ?_)
  have hP : va_P D vwCl [(h0, .inr (0, [.ref a0, .ref a1, .ref a2, .ref a3, .ref a4, .ref a5, .null, .null, .null, .null, .int 0, .int 0, .int 0, .int 0, .int 0, .int 0, .int 0])), (a0, .inl (c0, 10, .inl (fun _ => 0))), (a1, .inl (c1, 25, .inl (fun _ => 0))), (a2, .inl (c2, 31, .inl (fun _ => 0))), (a3, .inl (c3, 32, .inl (fun _ => 0))), (a4, .inl (c4, 31, .inl (fun _ => 0))), (a5, .inl (c5, 6, .inl (fun _ => 0))), (a6, .inl (c6, 6, .inl (fun _ => 0)))] H := hP
  have hD : va_D A [(h0, .inr (0, [.ref a0, .ref a1, .ref a2, .ref a3, .ref a4, .ref a5, .null, .null, .null, .null, .int 0, .int 0, .int 0, .int 0, .int 0, .int 0, .int 0])), (a0, .inl (c0, 10, .inl (fun _ => 0))), (a1, .inl (c1, 25, .inl (fun _ => 0))), (a2, .inl (c2, 31, .inl (fun _ => 0))), (a3, .inl (c3, 32, .inl (fun _ => 0))), (a4, .inl (c4, 31, .inl (fun _ => 0))), (a5, .inl (c5, 6, .inl (fun _ => 0))), (a6, .inl (c6, 6, .inl (fun _ => 0)))] := hD
  have hK : va_K D vwCl [(c0, .int), (c1, .int), (c2, .int), (c3, .int), (c4, .int), (c5, .int), (c6, .int)] s := hK
  refine va_putF (D := D) (ci := 0) (v := .ref a6) (ty := .array .int) (C := RX1) (T := TX1) (N := 17) hx hb hts in_X1 tyX1 tyX1_ok nmX1 hown hK hP hD hS 0 rfl rfl 6 (by decide) (hts _ q53) (fun _ h9 => h9) rfl hin rfl (by decide +kernel) rfl rfl (Nat.le_of_ble_eq_true rfl) dX1_init_57 (fun H locs hP hD hS => ?_)
  have hP : va_P D vwCl [(h0, .inr (0, [.ref a0, .ref a1, .ref a2, .ref a3, .ref a4, .ref a5, .ref a6, .null, .null, .null, .int 0, .int 0, .int 0, .int 0, .int 0, .int 0, .int 0])), (a0, .inl (c0, 10, .inl (fun _ => 0))), (a1, .inl (c1, 25, .inl (fun _ => 0))), (a2, .inl (c2, 31, .inl (fun _ => 0))), (a3, .inl (c3, 32, .inl (fun _ => 0))), (a4, .inl (c4, 31, .inl (fun _ => 0))), (a5, .inl (c5, 6, .inl (fun _ => 0))), (a6, .inl (c6, 6, .inl (fun _ => 0)))] H := hP
  have hD : va_D A [(h0, .inr (0, [.ref a0, .ref a1, .ref a2, .ref a3, .ref a4, .ref a5, .ref a6, .null, .null, .null, .int 0, .int 0, .int 0, .int 0, .int 0, .int 0, .int 0])), (a0, .inl (c0, 10, .inl (fun _ => 0))), (a1, .inl (c1, 25, .inl (fun _ => 0))), (a2, .inl (c2, 31, .inl (fun _ => 0))), (a3, .inl (c3, 32, .inl (fun _ => 0))), (a4, .inl (c4, 31, .inl (fun _ => 0))), (a5, .inl (c5, 6, .inl (fun _ => 0))), (a6, .inl (c6, 6, .inl (fun _ => 0)))] := hD
  refine lv_aload_n hx hb dX1_init_60 rfl (lv_at hl 0 rfl) ?_
  refine lv_iconst (v := 5) hx hb dX1_init_61 (by decide) ?_
  refine va_newa (atype := .int) (ty := .int) (N' := 5) (a0 := (5, .inl (fun _ => 0))) hx hb (hts _ q99) rfl hK hP hD hS hA (fun _ => rfl) (by decide) (by decide) (by decide) (Nat.le_of_ble_eq_true rfl) (Nat.le_of_ble_eq_true rfl) dX1_init_62 (fun a7 c7 H hK hP hD hS => ?_)
  have hP : va_P D vwCl [(h0, .inr (0, [.ref a0, .ref a1, .ref a2, .ref a3, .ref a4, .ref a5, .ref a6, .null, .null, .null, .int 0, .int 0, .int 0, .int 0, .int 0, .int 0, .int 0])), (a0, .inl (c0, 10, .inl (fun _ => 0))), (a1, .inl (c1, 25, .inl (fun _ => 0))), (a2, .inl (c2, 31, .inl (fun _ => 0))), (a3, .inl (c3, 32, .inl (fun _ => 0))), (a4, .inl (c4, 31, .inl (fun _ => 0))), (a5, .inl (c5, 6, .inl (fun _ => 0))), (a6, .inl (c6, 6, .inl (fun _ => 0))), (a7, .inl (c7, 5, .inl (fun _ => 0)))] H := hP
  have hD : va_D A [(h0, .inr (0, [.ref a0, .ref a1, .ref a2, .ref a3, .ref a4, .ref a5, .ref a6, .null, .null, .null, .int 0, .int 0, .int 0, .int 0, .int 0, .int 0, .int 0])), (a0, .inl (c0, 10, .inl (fun _ => 0))), (a1, .inl (c1, 25, .inl (fun _ => 0))), (a2, .inl (c2, 31, .inl (fun _ => 0))), (a3, .inl (c3, 32, .inl (fun _ => 0))), (a4, .inl (c4, 31, .inl (fun _ => 0))), (a5, .inl (c5, 6, .inl (fun _ => 0))), (a6, .inl (c6, 6, .inl (fun _ => 0))), (a7, .inl (c7, 5, .inl (fun _ => 0)))] := hD
  have hK : va_K D vwCl [(c0, .int), (c1, .int), (c2, .int), (c3, .int), (c4, .int), (c5, .int), (c6, .int), (c7, .int)] s := hK
  refine va_putF (D := D) (ci := 0) (v := .ref a7) (ty := .array .int) (C := RX1) (T := TX1) (N := 17) hx hb hts in_X1 tyX1 tyX1_ok nmX1 hown hK hP hD hS 0 rfl rfl 7 (by decide) (hts _ q54) (fun _ h9 => h9) rfl hin rfl (by decide +kernel) rfl rfl (Nat.le_of_ble_eq_true rfl) dX1_init_64 (fun H locs hP hD hS => ?_)
  have hP : va_P D vwCl [(h0, .inr (0, [.ref a0, .ref a1, .ref a2, .ref a3, .ref a4, .ref a5, .ref a6, .ref a7, .null, .null, .int 0, .int 0, .int 0, .int 0, .int 0, .int 0, .int 0])), (a0, .inl (c0, 10, .inl (fun _ => 0))), (a1, .inl (c1, 25, .inl (fun _ => 0))), (a2, .inl (c2, 31, .inl (fun _ => 0))), (a3, .inl (c3, 32, .inl (fun _ => 0))), (a4, .inl (c4, 31, .inl (fun _ => 0))), (a5, .inl (c5, 6, .inl (fun _ => 0))), (a6, .inl (c6, 6, .inl (fun _ => 0))), (a7, .inl (c7, 5, .inl (fun _ => 0)))] H := hP
  have hD : va_D A [(h0, .inr (0, [.ref a0, .ref a1, .ref a2, .ref a3, .ref a4, .ref a5, .ref a6, .ref a7, .null, .null, .int 0, .int 0, .int 0, .int 0, .int 0, .int 0, .int 0])), (a0, .inl (c0, 10, .inl (fun _ => 0))), (a1, .inl (c1, 25, .inl (fun _ => 0))), (a2, .inl (c2, 31, .inl (fun _ => 0))), (a3, .inl (c3, 32, .inl (fun _ => 0))), (a4, .inl (c4, 31, .inl (fun _ => 0))), (a5, .inl (c5, 6, .inl (fun _ => 0))), (a6, .inl (c6, 6, .inl (fun _ => 0))), (a7, .inl (c7, 5, .inl (fun _ => 0)))] := hD
  refine lv_aload_n hx hb dX1_init_67 rfl (lv_at hl 0 rfl) ?_
  refine lv_bipush (v := 10) hx hb dX1_init_68 (by decide) ?_
  refine va_newa (atype := .int) (ty := .int) (N' := 10) (a0 := (10, .inl (fun _ => 0))) hx hb (hts _ q99) rfl hK hP hD hS hA (fun _ => rfl) (by decide) (by decide) (by decide) (Nat.le_of_ble_eq_true rfl) (Nat.le_of_ble_eq_true rfl) dX1_init_70 (fun a8 c8 H hK hP hD hS => ?_)
  have hP : va_P D vwCl [(h0, .inr (0, [.ref a0, .ref a1, .ref a2, .ref a3, .ref a4, .ref a5, .ref a6, .ref a7, .null, .null, .int 0, .int 0, .int 0, .int 0, .int 0, .int 0, .int 0])), (a0, .inl (c0, 10, .inl (fun _ => 0))), (a1, .inl (c1, 25, .inl (fun _ => 0))), (a2, .inl (c2, 31, .inl (fun _ => 0))), (a3, .inl (c3, 32, .inl (fun _ => 0))), (a4, .inl (c4, 31, .inl (fun _ => 0))), (a5, .inl (c5, 6, .inl (fun _ => 0))), (a6, .inl (c6, 6, .inl (fun _ => 0))), (a7, .inl (c7, 5, .inl (fun _ => 0))), (a8, .inl (c8, 10, .inl (fun _ => 0)))] H := hP
  have hD : va_D A [(h0, .inr (0, [.ref a0, .ref a1, .ref a2, .ref a3, .ref a4, .ref a5, .ref a6, .ref a7, .null, .null, .int 0, .int 0, .int 0, .int 0, .int 0, .int 0, .int 0])), (a0, .inl (c0, 10, .inl (fun _ => 0))), (a1, .inl (c1, 25, .inl (fun _ => 0))), (a2, .inl (c2, 31, .inl (fun _ => 0))), (a3, .inl (c3, 32, .inl (fun _ => 0))), (a4, .inl (c4, 31, .inl (fun _ => 0))), (a5, .inl (c5, 6, .inl (fun _ => 0))), (a6, .inl (c6, 6, .inl (fun _ => 0))), (a7, .inl (c7, 5, .inl (fun _ => 0))), (a8, .inl (c8, 10, .inl (fun _ => 0)))] := hD
  have hK : va_K D vwCl [(c0, .int), (c1, .int), (c2, .int), (c3, .int), (c4, .int), (c5, .int), (c6, .int), (c7, .int), (c8, .int)] s := hK
  refine va_putF (D := D) (ci := 0) (v := .ref a8) (ty := .array .int) (C := RX1) (T := TX1) (N := 17) hx hb hts in_X1 tyX1 tyX1_ok nmX1 hown hK hP hD hS 0 rfl rfl 8 (by decide) (hts _ q55) (fun _ h9 => h9) rfl hin rfl (by decide +kernel) rfl rfl (Nat.le_of_ble_eq_true rfl) dX1_init_72 (fun H locs hP hD hS => ?_)
  have hP : va_P D vwCl [(h0, .inr (0, [.ref a0, .ref a1, .ref a2, .ref a3, .ref a4, .ref a5, .ref a6, .ref a7, .ref a8, .null, .int 0, .int 0, .int 0, .int 0, .int 0, .int 0, .int 0])), (a0, .inl (c0, 10, .inl (fun _ => 0))), (a1, .inl (c1, 25, .inl (fun _ => 0))), (a2, .inl (c2, 31, .inl (fun _ => 0))), (a3, .inl (c3, 32, .inl (fun _ => 0))), (a4, .inl (c4, 31, .inl (fun _ => 0))), (a5, .inl (c5, 6, .inl (fun _ => 0))), (a6, .inl (c6, 6, .inl (fun _ => 0))), (a7, .inl (c7, 5, .inl (fun _ => 0))), (a8, .inl (c8, 10, .inl (fun _ => 0)))] H := hP
  have hD : va_D A [(h0, .inr (0, [.ref a0, .ref a1, .ref a2, .ref a3, .ref a4, .ref a5, .ref a6, .ref a7, .ref a8, .null, .int 0, .int 0, .int 0, .int 0, .int 0, .int 0, .int 0])), (a0, .inl (c0, 10, .inl (fun _ => 0))), (a1, .inl (c1, 25, .inl (fun _ => 0))), (a2, .inl (c2, 31, .inl (fun _ => 0))), (a3, .inl (c3, 32, .inl (fun _ => 0))), (a4, .inl (c4, 31, .inl (fun _ => 0))), (a5, .inl (c5, 6, .inl (fun _ => 0))), (a6, .inl (c6, 6, .inl (fun _ => 0))), (a7, .inl (c7, 5, .inl (fun _ => 0))), (a8, .inl (c8, 10, .inl (fun _ => 0)))] := hD
  refine lv_aload_n hx hb dX1_init_75 rfl (lv_at hl 0 rfl) ?_
  refine lv_bipush (v := 10) hx hb dX1_init_76 (by decide) ?_
  refine va_newa (atype := .int) (ty := .int) (N' := 10) (a0 := (10, .inl (fun _ => 0))) hx hb (hts _ q99) rfl hK hP hD hS hA (fun _ => rfl) (by decide) (by decide) (by decide) (Nat.le_of_ble_eq_true rfl) (Nat.le_of_ble_eq_true rfl) dX1_init_78 (fun a9 c9 H hK hP hD hS => ?_)
  have hP : va_P D vwCl [(h0, .inr (0, [.ref a0, .ref a1, .ref a2, .ref a3, .ref a4, .ref a5, .ref a6, .ref a7, .ref a8, .null, .int 0, .int 0, .int 0, .int 0, .int 0, .int 0, .int 0])), (a0, .inl (c0, 10, .inl (fun _ => 0))), (a1, .inl (c1, 25, .inl (fun _ => 0))), (a2, .inl (c2, 31, .inl (fun _ => 0))), (a3, .inl (c3, 32, .inl (fun _ => 0))), (a4, .inl (c4, 31, .inl (fun _ => 0))), (a5, .inl (c5, 6, .inl (fun _ => 0))), (a6, .inl (c6, 6, .inl (fun _ => 0))), (a7, .inl (c7, 5, .inl (fun _ => 0))), (a8, .inl (c8, 10, .inl (fun _ => 0))), (a9, .inl (c9, 10, .inl (fun _ => 0)))] H := hP
  have hD : va_D A [(h0, .inr (0, [.ref a0, .ref a1, .ref a2, .ref a3, .ref a4, .ref a5, .ref a6, .ref a7, .ref a8, .null, .int 0, .int 0, .int 0, .int 0, .int 0, .int 0, .int 0])), (a0, .inl (c0, 10, .inl (fun _ => 0))), (a1, .inl (c1, 25, .inl (fun _ => 0))), (a2, .inl (c2, 31, .inl (fun _ => 0))), (a3, .inl (c3, 32, .inl (fun _ => 0))), (a4, .inl (c4, 31, .inl (fun _ => 0))), (a5, .inl (c5, 6, .inl (fun _ => 0))), (a6, .inl (c6, 6, .inl (fun _ => 0))), (a7, .inl (c7, 5, .inl (fun _ => 0))), (a8, .inl (c8, 10, .inl (fun _ => 0))), (a9, .inl (c9, 10, .inl (fun _ => 0)))] := hD
  have hK : va_K D vwCl [(c0, .int), (c1, .int), (c2, .int), (c3, .int), (c4, .int), (c5, .int), (c6, .int), (c7, .int), (c8, .int), (c9, .int)] s := hK
  refine va_putF (D := D) (ci := 0) (v := .ref a9) (ty := .array .int) (C := RX1) (T := TX1) (N := 17) hx hb hts in_X1 tyX1 tyX1_ok nmX1 hown hK hP hD hS 0 rfl rfl 9 (by decide) (hts _ q56) (fun _ h9 => h9) rfl hin rfl (by decide +kernel) rfl rfl (Nat.le_of_ble_eq_true rfl) dX1_init_80 (fun H locs hP hD hS => ?_)
  have hP : va_P D vwCl [(h0, .inr (0, [.ref a0, .ref a1, .ref a2, .ref a3, .ref a4, .ref a5, .ref a6, .ref a7, .ref a8, .ref a9, .int 0, .int 0, .int 0, .int 0, .int 0, .int 0, .int 0])), (a0, .inl (c0, 10, .inl (fun _ => 0))), (a1, .inl (c1, 25, .inl (fun _ => 0))), (a2, .inl (c2, 31, .inl (fun _ => 0))), (a3, .inl (c3, 32, .inl (fun _ => 0))), (a4, .inl (c4, 31, .inl (fun _ => 0))), (a5, .inl (c5, 6, .inl (fun _ => 0))), (a6, .inl (c6, 6, .inl (fun _ => 0))), (a7, .inl (c7, 5, .inl (fun _ => 0))), (a8, .inl (c8, 10, .inl (fun _ => 0))), (a9, .inl (c9, 10, .inl (fun _ => 0)))] H := hP
  have hD : va_D A [(h0, .inr (0, [.ref a0, .ref a1, .ref a2, .ref a3, .ref a4, .ref a5, .ref a6, .ref a7, .ref a8, .ref a9, .int 0, .int 0, .int 0, .int 0, .int 0, .int 0, .int 0])), (a0, .inl (c0, 10, .inl (fun _ => 0))), (a1, .inl (c1, 25, .inl (fun _ => 0))), (a2, .inl (c2, 31, .inl (fun _ => 0))), (a3, .inl (c3, 32, .inl (fun _ => 0))), (a4, .inl (c4, 31, .inl (fun _ => 0))), (a5, .inl (c5, 6, .inl (fun _ => 0))), (a6, .inl (c6, 6, .inl (fun _ => 0))), (a7, .inl (c7, 5, .inl (fun _ => 0))), (a8, .inl (c8, 10, .inl (fun _ => 0))), (a9, .inl (c9, 10, .inl (fun _ => 0)))] := hD
  let hh : Nat → Nat := fun k => match k with
    | 1 => a0
    | 2 => a1
    | 3 => a2
    | 4 => a3
    | 5 => a4
    | 6 => a5
    | 7 => a6
    | 8 => a7
    | 9 => a8
    | 10 => a9
    | _ => h0
  let dd : Nat → ClassId := fun k => match k with
    | 0 => c0
    | 1 => c1
    | 2 => c2
    | 3 => c3
    | 4 => c4
    | 5 => c5
    | 6 => c6
    | 7 => c7
    | 8 => c8
    | _ => c9
  have hP : va_P D vwCl (pic1 hh dd (fun _ _ => 0)) H := hP
  have hD : va_D A (pic1 hh dd (fun _ _ => 0)) := hD
  have hK : va_K D vwCl (tys1 dd) s := hK
  refine W.widen (k := 10) (n := 166) (Nat.le_of_ble_eq_true rfl) (Nat.le_of_ble_eq_true rfl) ?_
  exact init1_tail (p, l, e, { frames := 1, cells := 10, slots := 166, locals := 32 }, s, m, #[Value.ref h0, Value.int x], below, meth, c, A, D, 10, 166, MQ below (va_Qv (fun _ : (Nat → Nat) × (Nat → ClassId) × Wd => True) (BI1 D A h0 x) A) #[Value.ref h0, Value.int x] s 10 166 A) hh dd x (fun w1 iv C H locs ls hP hD hS hl => W.vret hx hb hr (fun t ht hW => ⟨⟨(hh, dd, w1), rfl, trivial, rfl, iv, by rw [ht]; exact hP, va_K.moved hW.alike hK, hD⟩, hS.F ht⟩) hS.2.2 dX1_init_110 B.notSynchronized) ⟨⟨hx, hb, hml, hown, hts⟩, hK, hA, ⟨Nat.zero_le _, Nat.zero_le _⟩, ⟨Nat.le_refl _, Nat.le_refl _⟩, B.notSynchronized⟩ H locs ls hP hD hS hLH
abbrev blank2 : List Value := [.int 0, .null, .int 0, .null, .null, .int 0]
theorem blank2_ok : ∀ j, j < 6 → defaultValue (tyX2 j) = vp_V blank2 j := by
  intro j hj
  match j, hj with
  | 0, _ => rfl
  | 1, _ => rfl
  | 2, _ => rfl
  | 3, _ => rfl
  | 4, _ => rfl
  | 5, _ => rfl
  | j + 6, hj => omega
set_option maxHeartbeats 4000000 in
theorem m2_init (l : Launch) (D : va_G) (h0 sz : Nat) (x : Int32) : Met l yX2_init (ws_ yX2_init cX2_init 2 none) ({ frames := 1, cells := 3, slots := 79, locals := 32 }) (va_Pc [.ref h0, .int x] (fun U => U.heap.size = sz ∧ va_P D vwCl [(h0, .inr (1, blank2))] U.heap ∧ va_K D vwCl [] U ∧ va_D (fun _ => True) [(h0, .inr (1, blank2))])) (va_Qv (fun _ : (Nat → Nat) × (Nat → ClassId) × Wd => True) (BI2 D (va_A [(h0, .inr (1, blank2))] sz) h0 x) (va_A [(h0, .inr (1, blank2))] sz)) 3 79 (va_A [(h0, .inr (1, blank2))] sz) := by
  refine Met.ofW (cc := cX2_init) (maxL := 2) (ret := none) (by decide) rfl ?_
  intro p e s m args below meth c s₁ B hml hv
  obtain ⟨rfl, hsz, hP, hK, hD0⟩ := hv
  have hx := B.exec
  have hb := B.bytes
  have hr := B.returns
  have hts := atoms_spec (ws := ws_ yX2_init cX2_init 2 none) B.pre
  have hts : ∀ w ∈ lw_all, w.before _ s = true := fun w h => hts w (List.mem_cons_of_mem _ h)
  have hown : s.vm.findClass RX2 = some m.cls := findClass_of_methodNamed B.named
  have hin : meth.name = "<init>" := (name_of_methodNamed B.named B.method).1
  subst hsz
  have hD := hD0.self (sz := s.heap.size)
  generalize hAe : va_A [(h0, .inr (1, blank2))] s.heap.size = A at hD ⊢
  have hA : ∀ q : Nat, s.heap.size ≤ q → A q := fun q h => by rw [← hAe]; exact Or.inr h
  have hS : va_S A s.heap s.heap [] := va_S.rf
  have hl := lv_entry ([.ref h0, .int x]) (n := 2) (Nat.le_of_ble_eq_true rfl)
  rw [lg_entry_eq]
  generalize (lg_sl ([.ref h0, .int x]) ++ List.replicate (2 - (lg_sl ([.ref h0, .int x])).length) Slot.unset).toArray = ls at hl ⊢
  have hLH : LH ls 2 [.ref h0, .int x] := LH_entry (by simp [Value.category]) hl
  have hl : lv_has ls 2 [(0, .ref h0), (1, .int x)] := hl
  refine lv_aload_n hx hb dX2_init_0 rfl (lv_at hl 0 rfl) ?_
  refine W.objInit hx hb hown (hts _ q243) (hts _ q45) (hts _ q46) rfl (by rw [hml]; exact hl.1) rfl dX2_init_1 (Nat.le_of_ble_eq_true rfl) (Nat.le_of_ble_eq_true rfl) ?_
  refine W.eq (g2 := F0 m 4 ls []) rfl ?_
  refine lv_aload_n hx hb dX2_init_4 rfl (lv_at hl 0 rfl) ?_
  refine lv_bipush (v := 10) hx hb dX2_init_5 (by decide) ?_
  refine va_newa (atype := .int) (ty := .int) (N' := 10) (a0 := (10, .inl (fun _ => 0))) hx hb (hts _ q99) rfl hK hP hD hS hA (fun _ => rfl) (by decide) (by decide) (by decide) (Nat.le_of_ble_eq_true rfl) (Nat.le_of_ble_eq_true rfl) dX2_init_7 (fun a0 c0 H hK hP hD hS => ?_)
  have hP : va_P D vwCl [(h0, .inr (1, [.int 0, .null, .int 0, .null, .null, .int 0])), (a0, .inl (c0, 10, .inl (fun _ => 0)))] H := hP
  have hD : va_D A [(h0, .inr (1, [.int 0, .null, .int 0, .null, .null, .int 0])), (a0, .inl (c0, 10, .inl (fun _ => 0)))] := hD
  have hK : va_K D vwCl [(c0, .int)] s := hK
  refine va_put (D := D) (ci := 1) (v := .ref a0) (ty := .array .int) (C := RX2) (T := TX2) (N := 6) hx hb hts in_X2 tyX2 tyX2_ok nmX2 hown hK hP hD hS 0 rfl rfl 1 (by decide) (hts _ q245) (fun _ h9 => h9) rfl (by decide +kernel) rfl rfl (Nat.le_of_ble_eq_true rfl) dX2_init_9 (fun H locs hP hD hS => ?_)
  have hP : va_P D vwCl [(h0, .inr (1, [.int 0, .ref a0, .int 0, .null, .null, .int 0])), (a0, .inl (c0, 10, .inl (fun _ => 0)))] H := hP
  have hD : va_D A [(h0, .inr (1, [.int 0, .ref a0, .int 0, .null, .null, .int 0])), (a0, .inl (c0, 10, .inl (fun _ => 0)))] := hD
  refine lv_aload_n hx hb dX2_init_12 rfl (lv_at hl 0 rfl) ?_
  refine lv_bipush (v := 64) hx hb dX2_init_13 (by decide) ?_
  refine va_newa (atype := .boolean) (ty := .boolean) (N' := 64) (a0 := (64, .inl (fun _ => 0))) hx hb (hts _ q263) rfl hK hP hD hS hA (fun _ => rfl) (by decide) (by decide) (by decide) (Nat.le_of_ble_eq_true rfl) (Nat.le_of_ble_eq_true rfl) dX2_init_15 (fun a1 c1 H hK hP hD hS => ?_)
  have hP : va_P D vwCl [(h0, .inr (1, [.int 0, .ref a0, .int 0, .null, .null, .int 0])), (a0, .inl (c0, 10, .inl (fun _ => 0))), (a1, .inl (c1, 64, .inl (fun _ => 0)))] H := hP
  have hD : va_D A [(h0, .inr (1, [.int 0, .ref a0, .int 0, .null, .null, .int 0])), (a0, .inl (c0, 10, .inl (fun _ => 0))), (a1, .inl (c1, 64, .inl (fun _ => 0)))] := hD
  have hK : va_K D vwCl [(c0, .int), (c1, .boolean)] s := hK
  refine va_put (D := D) (ci := 1) (v := .ref a1) (ty := .array .boolean) (C := RX2) (T := TX2) (N := 6) hx hb hts in_X2 tyX2 tyX2_ok nmX2 hown hK hP hD hS 0 rfl rfl 3 (by decide) (hts _ q247) (fun _ h9 => h9) rfl (by decide +kernel) rfl rfl (Nat.le_of_ble_eq_true rfl) dX2_init_17 (fun H locs hP hD hS => ?_)
  have hP : va_P D vwCl [(h0, .inr (1, [.int 0, .ref a0, .int 0, .ref a1, .null, .int 0])), (a0, .inl (c0, 10, .inl (fun _ => 0))), (a1, .inl (c1, 64, .inl (fun _ => 0)))] H := hP
  have hD : va_D A [(h0, .inr (1, [.int 0, .ref a0, .int 0, .ref a1, .null, .int 0])), (a0, .inl (c0, 10, .inl (fun _ => 0))), (a1, .inl (c1, 64, .inl (fun _ => 0)))] := hD
  refine lv_aload_n hx hb dX2_init_20 rfl (lv_at hl 0 rfl) ?_
  refine lv_iconst (v := 5) hx hb dX2_init_21 (by decide) ?_
  refine va_newa (atype := .int) (ty := .int) (N' := 5) (a0 := (5, .inl (fun _ => 0))) hx hb (hts _ q99) rfl hK hP hD hS hA (fun _ => rfl) (by decide) (by decide) (by decide) (Nat.le_of_ble_eq_true rfl) (Nat.le_of_ble_eq_true rfl) dX2_init_22 (fun a2 c2 H hK hP hD hS => ?_)
  have hP : va_P D vwCl [(h0, .inr (1, [.int 0, .ref a0, .int 0, .ref a1, .null, .int 0])), (a0, .inl (c0, 10, .inl (fun _ => 0))), (a1, .inl (c1, 64, .inl (fun _ => 0))), (a2, .inl (c2, 5, .inl (fun _ => 0)))] H := hP
  have hD : va_D A [(h0, .inr (1, [.int 0, .ref a0, .int 0, .ref a1, .null, .int 0])), (a0, .inl (c0, 10, .inl (fun _ => 0))), (a1, .inl (c1, 64, .inl (fun _ => 0))), (a2, .inl (c2, 5, .inl (fun _ => 0)))] := hD
  have hK : va_K D vwCl [(c0, .int), (c1, .boolean), (c2, .int)] s := hK
  refine va_put (D := D) (ci := 1) (v := .ref a2) (ty := .array .int) (C := RX2) (T := TX2) (N := 6) hx hb hts in_X2 tyX2 tyX2_ok nmX2 hown hK hP hD hS 0 rfl rfl 4 (by decide) (hts _ q248) (fun _ h9 => h9) rfl (by decide +kernel) rfl rfl (Nat.le_of_ble_eq_true rfl) dX2_init_24 (fun H locs hP hD hS => ?_)
  have hP : va_P D vwCl [(h0, .inr (1, [.int 0, .ref a0, .int 0, .ref a1, .ref a2, .int 0])), (a0, .inl (c0, 10, .inl (fun _ => 0))), (a1, .inl (c1, 64, .inl (fun _ => 0))), (a2, .inl (c2, 5, .inl (fun _ => 0)))] H := hP
  have hD : va_D A [(h0, .inr (1, [.int 0, .ref a0, .int 0, .ref a1, .ref a2, .int 0])), (a0, .inl (c0, 10, .inl (fun _ => 0))), (a1, .inl (c1, 64, .inl (fun _ => 0))), (a2, .inl (c2, 5, .inl (fun _ => 0)))] := hD
  let hh : Nat → Nat := fun k => match k with
    | 1 => a0
    | 2 => a1
    | 3 => a2
    | _ => h0
  let dd : Nat → ClassId := fun k => match k with
    | 0 => c0
    | 1 => c1
    | _ => c2
  have hP : va_P D vwCl (pic2 hh dd (fun _ _ => 0)) H := hP
  have hD : va_D A (pic2 hh dd (fun _ _ => 0)) := hD
  have hK : va_K D vwCl (tys2 dd) s := hK
  refine W.widen (k := 3) (n := 79) (Nat.le_of_ble_eq_true rfl) (Nat.le_of_ble_eq_true rfl) ?_
  exact init2_tail (p, l, e, { frames := 1, cells := 3, slots := 79, locals := 32 }, s, m, #[Value.ref h0, Value.int x], below, meth, c, A, D, 3, 79, MQ below (va_Qv (fun _ : (Nat → Nat) × (Nat → ClassId) × Wd => True) (BI2 D A h0 x) A) #[Value.ref h0, Value.int x] s 3 79 A) hh dd x (fun w1 iv C H locs ls hP hD hS hl => W.vret hx hb hr (fun t ht hW => ⟨⟨(hh, dd, w1), rfl, trivial, rfl, iv, by rw [ht]; exact hP, va_K.moved hW.alike hK, hD⟩, hS.F ht⟩) hS.2.2 dX2_init_50 B.notSynchronized) ⟨⟨hx, hb, hml, hown, hts⟩, hK, hA, ⟨Nat.zero_le _, Nat.zero_le _⟩, ⟨Nat.le_refl _, Nat.le_refl _⟩, B.notSynchronized⟩ H locs ls hP hD hS hLH
end
section
/-! the law: its rows, its loop, its entry -/
set_option maxRecDepth 100000
def R_law : String := "FsmReducerLaw"
def lw_P (b : Addr) (xs : List Int32) (args : Array Value) (s : State) : Prop := args = #[.ref b] ∧ s.IntsAt b xs ∧ xs.length ≤ 257 ∧ (Jvm.Cond.and given_1 narrow_1).before args s = true
def lw_Q (_ : Array Value) (s : State) (o : Outcome) (t : State) : Prop := o = .returned (some (.int 1)) ∧ Framed s o t [] 600000 7290000
def lw_Z (below : List Frame) (a : Array Value) (s : State) : State → Prop := fun t => ∃ o, t.status = .running ∧ Ended t below o ∧ lw_Q a s o t
/-- the law's own end, with 1 on the stack, nothing written that was there before, its room as the claim has it -/
theorem lw_ret {p : Program} {l : Launch} {e : Env} {s : State} {m : MethodId} {below : List Frame} {meth : Method} {c : Code} {b : Nat} (hx : p.tables.exec = Jvm.exec) (hb : c.code = code) (hr : meth.sig.returnType = ret) (hlocks : meth.locks = false) {pc : Nat} {H : Heap} {ls : Array Slot} (hdg : decode code pc = .ok (.ireturn, 1)) : W p l e room_1 s m #[Value.ref b] below meth c H [] 600000 7290000 (lw_Z below #[Value.ref b] s) (F0 m pc ls [.int 1]) := by
  intro T hT X
  obtain ⟨fs, hret, hrun, hended, hW, hframe⟩ := X.leave (v := some (.int 1)) (hlocks := hlocks) (fun h => by rw [hr] at h; cases h)
  have hmeth' : T.vm.method? m = some meth := X.method'
  refine ⟨T.setFrames fs, ?_, .returned (some (.int 1)), hrun, hended, rfl, ⟨_, rfl⟩, hW, hframe⟩
  jvm_step X.here [X.here.top, hx, hb, hdg, hmeth', hr, ret, narrow_b1]
  (try refine ⟨rfl, ?_⟩); (try refine ⟨rfl, ?_⟩)
  first | (intro acts; rw [hret _ acts rfl rfl rfl]) | rw [hret _ _ rfl rfl rfl]
  exact Steps.refl _
/-- what holds at the law's entry: the machine, the code, the tables' words (any of lw_tbl by 'hts w (by decide +kernel)'), the script of L ints xs at the cell b, what the Statement gives of the start (any of its parts by flat_of_before) -/
def lw_At (p : Program) (s : State) (m : MethodId) (meth : Method) (c : Code) (b L : Nat) (xs : Nat → Int32) : Prop :=
  p.tables.exec = Jvm.exec ∧ c.code = code ∧ meth.sig.returnType = ret ∧ c.maxLocals = 4 ∧ s.vm.findClass R_law = some m.cls ∧ (∀ w ∈ lw_tbl, w.before #[Value.ref b] s = true) ∧ va_X b L xs s s.heap ∧ b < s.heap.size ∧ meth.locks = false ∧ (Jvm.Cond.and given_1 narrow_1).before #[Value.ref b] s = true
def K0 (h1 : Nat → Nat) (d1 : Nat → ClassId) (h2 : Nat → Nat) (d2 : Nat → ClassId) : Kc (Wd × Wd) := (R_law, tys1 d1 ++ tys2 d2, fun w => pic1 h1 d1 w.1 ++ pic2 h2 d2 w.2)
/-- the script, read only -/
def Scr (X : Gm) (b L : Nat) (xs : Nat → Int32) : Prop := va_X b L xs (gs X) (gs X).heap ∧ b < (gs X).heap.size ∧ ¬ gA X b
section JLaw
variable {X : Gm} {h1 : Nat → Nat} {d1 : Nat → ClassId} {h2 : Nat → Nat} {d2 : Nat → ClassId} {cc : ByteArray} {nL k pc : Nat} {lv st : List Value} {w1 w2 : Wd}
theorem jL_sld {b L : Nat} {xs : Nat → Int32} {a : Nat} {S : Type} {K : Kc S} {w : S} (hs : Scr X b L xs) (hd : decode cc pc = .ok (.iaload, 1)) (ha : a < L) (hL : L < 2 ^ 31) (kk : J X K cc nL k (pc + 1) lv (.int (xs a) :: st) w) : J X K cc nL k pc lv (.int (nI a) :: .ref b :: st) w := fun C H locs ls hP hD hS hl => va_sld C.1.1 C.1.2.1 hs.1 hs.2.1 hs.2.2 hS (vp_in_nI ha hL) hd (by rw [nI_clamp (by omega)]; exact kk C H locs ls hP hD hS hl)
theorem jL_slen {b L : Nat} {xs : Nat → Int32} {S : Type} {K : Kc S} {w : S} (hs : Scr X b L xs) (hd : decode cc pc = .ok (.arraylength, 1)) (kk : J X K cc nL k (pc + 1) lv (.int (nI L) :: st) w) : J X K cc nL k pc lv (.ref b :: st) w := fun C H locs ls hP hD hS hl => va_slen C.1.1 C.1.2.1 hs.1 hs.2.1 hs.2.2 hS hd (kk C H locs ls hP hD hS hl)
theorem jL_tab {S : Type} {K : Kc S} {w : S} {dflt lo hi : Int} {offs : Array Int} {len : Nat} {x : Int32} {off : Int} (tgt : Nat) (hd : decode cc pc = .ok (.tableswitch dflt lo hi offs, len)) (h1 : ¬ x.toInt < lo) (h2 : ¬ hi < x.toInt) (ho : offs[(x.toInt - lo).toNat]? = some off) (ht : (pc : Int) + off = (tgt : Int)) (kk : J X K cc nL k tgt lv st w) : J X K cc nL k pc lv (.int x :: st) w := fun C H locs ls hP hD hS hl => lv_tableIn C.1.1 C.1.2.1 hd h1 h2 ho ht (kk C H locs ls hP hD hS hl)
theorem jL_1i {y : MethodName} {bc : ByteArray} {nl kc idx n : Nat} {ret : Option FieldType} {post : Int32 → Wd → Prop} {As : List Value} (hG : GoodIn lw_all (wsV R_law idx RX1 y (ws_ y bc nl ret)))
    (hy : y.cls = RX1 ∧ y.cls ≠ "java/lang/invoke/MethodHandle" ∧ y.cls ≠ "java/lang/invoke/VarHandle" ∧ (parseMethodDescriptor y.desc).map (fun d => d.parameters.length) = some n) (hn : As.length = n) (hk : kc + 1 ≤ k) (hnl : nl ≤ 13) (hst : (st.map fun v => v.category).sum ≤ 8)
    (hd : decode cc pc = .ok (.invokevirtual idx, 3)) (hM : Mi (gl X) (gD X) (K1 h1 d1) y bc nl kc ret (.ref (h1 0) :: As) w1 post) (kk : ∀ r w', post r w' → J X (K0 h1 d1 h2 d2) cc nL k (pc + 3) lv (.int r :: st) (w', w2)) : J X (K0 h1 d1 h2 d2) cc nL k pc lv (As.reverse ++ .ref (h1 0) :: st) (w1, w2) := by
  intro C0 H locs ls hP hD hS hl
  have hP : va_P (gD X) vwCl (pic1 h1 d1 w1 ++ pic2 h2 d2 w2) H := hP
  have hD : va_D (gA X) (pic1 h1 d1 w1 ++ pic2 h2 d2 w2) := hD
  have hPc := hP.sub (ws' := pic1 h1 d1 w1) [0, 1, 2, 3, 4, 5, 6, 7, 8, 9, 10] rfl
  have hDc := hD.sub (ws' := pic1 h1 d1 w1) [0, 1, 2, 3, 4, 5, 6, 7, 8, 9, 10] (by decide) rfl
  have hKc : va_K (gD X) vwCl (tys1 d1) (gs X) := C0.2.1.sub (tys' := tys1 d1) [0, 1, 2, 3, 4, 5, 6, 7, 8, 9] rfl
  have hFc := va_free (wc := pic1 h1 d1 w1) hD hS C0.2.2.1 [0, 1, 2, 3, 4, 5, 6, 7, 8, 9, 10] rfl
  have hR := C0.2.2.2.1
  refine va_calli (va_runV (As := As) (rest := st) C0.1 (hM H.size) (cwV n C0.1.2.2.2.2 hG rfl rfl rfl hy ⟨Nat.le_trans hk hR.1, by show 8 + (nl + 11) + 32 * kc ≤ _; have := hR.2; omega⟩) ⟨PcK_blind, va_recv hKc hPc (ci := 0) (q0 := 0) rfl rfl, fun U hU hW => ⟨rfl, by rw [hU], by rw [hU]; exact hPc, va_K.moved hW.alike hKc, hDc.weaken (fun _ _ _ _ => trivial)⟩⟩ rfl hn hl.1 rfl (lv_room hst) hd C0.2.2.2.2.1) hS (fun q _ h => hFc q h) hFc (fun r u t H1 locs1 ht hvm hp hB hz1 hk1 hS1 => ?_)
  rw [ht] at hB
  obtain ⟨hP1, hD1⟩ := va_join (wr := pic2 h2 d2 w2) (w1 := pic1 h1 d1 u) hP hD [0, 1, 2, 3, 4, 5, 6, 7, 8, 9, 10] [11, 12, 13, 14] rfl rfl (by decide) (by decide) hk1 hFc hB.1 hB.2.2
  exact kk r u hp C0 H1 locs1 ls (hP1.sub (ws' := pic1 h1 d1 u ++ pic2 h2 d2 w2) [4, 5, 6, 7, 8, 9, 10, 11, 12, 13, 14, 0, 1, 2, 3] rfl) (hD1.sub (ws' := pic1 h1 d1 u ++ pic2 h2 d2 w2) [4, 5, 6, 7, 8, 9, 10, 11, 12, 13, 14, 0, 1, 2, 3] (by decide) rfl) hS1 hl
theorem jL_1v {y : MethodName} {bc : ByteArray} {nl kc idx n : Nat} {post : Wd → Prop} {As : List Value} (hG : GoodIn lw_all (wsV R_law idx RX1 y (ws_ y bc nl none)))
    (hy : y.cls = RX1 ∧ y.cls ≠ "java/lang/invoke/MethodHandle" ∧ y.cls ≠ "java/lang/invoke/VarHandle" ∧ (parseMethodDescriptor y.desc).map (fun d => d.parameters.length) = some n) (hn : As.length = n) (hk : kc + 1 ≤ k) (hnl : nl ≤ 13) (hst : (st.map fun v => v.category).sum ≤ 8)
    (hd : decode cc pc = .ok (.invokevirtual idx, 3)) (hM : Mv (gl X) (gD X) (K1 h1 d1) y bc nl kc (.ref (h1 0) :: As) w1 post) (kk : ∀ w', post w' → J X (K0 h1 d1 h2 d2) cc nL k (pc + 3) lv st (w', w2)) : J X (K0 h1 d1 h2 d2) cc nL k pc lv (As.reverse ++ .ref (h1 0) :: st) (w1, w2) := by
  intro C0 H locs ls hP hD hS hl
  have hP : va_P (gD X) vwCl (pic1 h1 d1 w1 ++ pic2 h2 d2 w2) H := hP
  have hD : va_D (gA X) (pic1 h1 d1 w1 ++ pic2 h2 d2 w2) := hD
  have hPc := hP.sub (ws' := pic1 h1 d1 w1) [0, 1, 2, 3, 4, 5, 6, 7, 8, 9, 10] rfl
  have hDc := hD.sub (ws' := pic1 h1 d1 w1) [0, 1, 2, 3, 4, 5, 6, 7, 8, 9, 10] (by decide) rfl
  have hKc : va_K (gD X) vwCl (tys1 d1) (gs X) := C0.2.1.sub (tys' := tys1 d1) [0, 1, 2, 3, 4, 5, 6, 7, 8, 9] rfl
  have hFc := va_free (wc := pic1 h1 d1 w1) hD hS C0.2.2.1 [0, 1, 2, 3, 4, 5, 6, 7, 8, 9, 10] rfl
  have hR := C0.2.2.2.1
  refine va_callv (va_runV (As := As) (rest := st) C0.1 (hM H.size) (cwV n C0.1.2.2.2.2 hG rfl rfl rfl hy ⟨Nat.le_trans hk hR.1, by show 8 + (nl + 11) + 32 * kc ≤ _; have := hR.2; omega⟩) ⟨PcK_blind, va_recv hKc hPc (ci := 0) (q0 := 0) rfl rfl, fun U hU hW => ⟨rfl, by rw [hU], by rw [hU]; exact hPc, va_K.moved hW.alike hKc, hDc.weaken (fun _ _ _ _ => trivial)⟩⟩ rfl hn hl.1 rfl (lv_room hst) hd C0.2.2.2.2.1) hS (fun q _ h => hFc q h) hFc (fun u t H1 locs1 ht hvm hp hB hz1 hk1 hS1 => ?_)
  rw [ht] at hB
  obtain ⟨hP1, hD1⟩ := va_join (wr := pic2 h2 d2 w2) (w1 := pic1 h1 d1 u) hP hD [0, 1, 2, 3, 4, 5, 6, 7, 8, 9, 10] [11, 12, 13, 14] rfl rfl (by decide) (by decide) hk1 hFc hB.1 hB.2.2
  exact kk u hp C0 H1 locs1 ls (hP1.sub (ws' := pic1 h1 d1 u ++ pic2 h2 d2 w2) [4, 5, 6, 7, 8, 9, 10, 11, 12, 13, 14, 0, 1, 2, 3] rfl) (hD1.sub (ws' := pic1 h1 d1 u ++ pic2 h2 d2 w2) [4, 5, 6, 7, 8, 9, 10, 11, 12, 13, 14, 0, 1, 2, 3] (by decide) rfl) hS1 hl
theorem jL_2i {y : MethodName} {bc : ByteArray} {nl kc idx n : Nat} {ret : Option FieldType} {post : Int32 → Wd → Prop} {As : List Value} (hG : GoodIn lw_all (wsV R_law idx RX2 y (ws_ y bc nl ret)))
    (hy : y.cls = RX2 ∧ y.cls ≠ "java/lang/invoke/MethodHandle" ∧ y.cls ≠ "java/lang/invoke/VarHandle" ∧ (parseMethodDescriptor y.desc).map (fun d => d.parameters.length) = some n) (hn : As.length = n) (hk : kc + 1 ≤ k) (hnl : nl ≤ 13) (hst : (st.map fun v => v.category).sum ≤ 8)
    (hd : decode cc pc = .ok (.invokevirtual idx, 3)) (hM : Mi (gl X) (gD X) (K2 h2 d2) y bc nl kc ret (.ref (h2 0) :: As) w2 post) (kk : ∀ r w', post r w' → J X (K0 h1 d1 h2 d2) cc nL k (pc + 3) lv (.int r :: st) (w1, w')) : J X (K0 h1 d1 h2 d2) cc nL k pc lv (As.reverse ++ .ref (h2 0) :: st) (w1, w2) := by
  intro C0 H locs ls hP hD hS hl
  have hP : va_P (gD X) vwCl (pic1 h1 d1 w1 ++ pic2 h2 d2 w2) H := hP
  have hD : va_D (gA X) (pic1 h1 d1 w1 ++ pic2 h2 d2 w2) := hD
  have hPc := hP.sub (ws' := pic2 h2 d2 w2) [11, 12, 13, 14] rfl
  have hDc := hD.sub (ws' := pic2 h2 d2 w2) [11, 12, 13, 14] (by decide) rfl
  have hKc : va_K (gD X) vwCl (tys2 d2) (gs X) := C0.2.1.sub (tys' := tys2 d2) [10, 11, 12] rfl
  have hFc := va_free (wc := pic2 h2 d2 w2) hD hS C0.2.2.1 [11, 12, 13, 14] rfl
  have hR := C0.2.2.2.1
  refine va_calli (va_runV (As := As) (rest := st) C0.1 (hM H.size) (cwV n C0.1.2.2.2.2 hG rfl rfl rfl hy ⟨Nat.le_trans hk hR.1, by show 8 + (nl + 11) + 32 * kc ≤ _; have := hR.2; omega⟩) ⟨PcK_blind, va_recv hKc hPc (ci := 1) (q0 := 0) rfl rfl, fun U hU hW => ⟨rfl, by rw [hU], by rw [hU]; exact hPc, va_K.moved hW.alike hKc, hDc.weaken (fun _ _ _ _ => trivial)⟩⟩ rfl hn hl.1 rfl (lv_room hst) hd C0.2.2.2.2.1) hS (fun q _ h => hFc q h) hFc (fun r u t H1 locs1 ht hvm hp hB hz1 hk1 hS1 => ?_)
  rw [ht] at hB
  obtain ⟨hP1, hD1⟩ := va_join (wr := pic1 h1 d1 w1) (w1 := pic2 h2 d2 u) hP hD [11, 12, 13, 14] [0, 1, 2, 3, 4, 5, 6, 7, 8, 9, 10] rfl rfl (by decide) (by decide) hk1 hFc hB.1 hB.2.2
  exact kk r u hp C0 H1 locs1 ls (hP1.sub (ws' := pic1 h1 d1 w1 ++ pic2 h2 d2 u) [0, 1, 2, 3, 4, 5, 6, 7, 8, 9, 10, 11, 12, 13, 14] rfl) (hD1.sub (ws' := pic1 h1 d1 w1 ++ pic2 h2 d2 u) [0, 1, 2, 3, 4, 5, 6, 7, 8, 9, 10, 11, 12, 13, 14] (by decide) rfl) hS1 hl
theorem jL_2v {y : MethodName} {bc : ByteArray} {nl kc idx n : Nat} {post : Wd → Prop} {As : List Value} (hG : GoodIn lw_all (wsV R_law idx RX2 y (ws_ y bc nl none)))
    (hy : y.cls = RX2 ∧ y.cls ≠ "java/lang/invoke/MethodHandle" ∧ y.cls ≠ "java/lang/invoke/VarHandle" ∧ (parseMethodDescriptor y.desc).map (fun d => d.parameters.length) = some n) (hn : As.length = n) (hk : kc + 1 ≤ k) (hnl : nl ≤ 13) (hst : (st.map fun v => v.category).sum ≤ 8)
    (hd : decode cc pc = .ok (.invokevirtual idx, 3)) (hM : Mv (gl X) (gD X) (K2 h2 d2) y bc nl kc (.ref (h2 0) :: As) w2 post) (kk : ∀ w', post w' → J X (K0 h1 d1 h2 d2) cc nL k (pc + 3) lv st (w1, w')) : J X (K0 h1 d1 h2 d2) cc nL k pc lv (As.reverse ++ .ref (h2 0) :: st) (w1, w2) := by
  intro C0 H locs ls hP hD hS hl
  have hP : va_P (gD X) vwCl (pic1 h1 d1 w1 ++ pic2 h2 d2 w2) H := hP
  have hD : va_D (gA X) (pic1 h1 d1 w1 ++ pic2 h2 d2 w2) := hD
  have hPc := hP.sub (ws' := pic2 h2 d2 w2) [11, 12, 13, 14] rfl
  have hDc := hD.sub (ws' := pic2 h2 d2 w2) [11, 12, 13, 14] (by decide) rfl
  have hKc : va_K (gD X) vwCl (tys2 d2) (gs X) := C0.2.1.sub (tys' := tys2 d2) [10, 11, 12] rfl
  have hFc := va_free (wc := pic2 h2 d2 w2) hD hS C0.2.2.1 [11, 12, 13, 14] rfl
  have hR := C0.2.2.2.1
  refine va_callv (va_runV (As := As) (rest := st) C0.1 (hM H.size) (cwV n C0.1.2.2.2.2 hG rfl rfl rfl hy ⟨Nat.le_trans hk hR.1, by show 8 + (nl + 11) + 32 * kc ≤ _; have := hR.2; omega⟩) ⟨PcK_blind, va_recv hKc hPc (ci := 1) (q0 := 0) rfl rfl, fun U hU hW => ⟨rfl, by rw [hU], by rw [hU]; exact hPc, va_K.moved hW.alike hKc, hDc.weaken (fun _ _ _ _ => trivial)⟩⟩ rfl hn hl.1 rfl (lv_room hst) hd C0.2.2.2.2.1) hS (fun q _ h => hFc q h) hFc (fun u t H1 locs1 ht hvm hp hB hz1 hk1 hS1 => ?_)
  rw [ht] at hB
  obtain ⟨hP1, hD1⟩ := va_join (wr := pic1 h1 d1 w1) (w1 := pic2 h2 d2 u) hP hD [11, 12, 13, 14] [0, 1, 2, 3, 4, 5, 6, 7, 8, 9, 10] rfl rfl (by decide) (by decide) hk1 hFc hB.1 hB.2.2
  exact kk u hp C0 H1 locs1 ls (hP1.sub (ws' := pic1 h1 d1 w1 ++ pic2 h2 d2 u) [0, 1, 2, 3, 4, 5, 6, 7, 8, 9, 10, 11, 12, 13, 14] rfl) (hD1.sub (ws' := pic1 h1 d1 w1 ++ pic2 h2 d2 u) [0, 1, 2, 3, 4, 5, 6, 7, 8, 9, 10, 11, 12, 13, 14] (by decide) rfl) hS1 hl
theorem cL1_states {kc : Nat} {post : Int32 → Wd → Prop} (hd : decode cc pc = .ok (.invokevirtual 21, 3)) (hM : Mi (gl X) (gD X) (K1 h1 d1) yX1_states cX1_states 1 kc (some .int) [.ref (h1 0)] w1 post) (kk : ∀ r w', post r w' → J X (K0 h1 d1 h2 d2) cc nL k (pc + 3) lv (.int r :: st) (w', w2)) (hk : kc + 1 ≤ k := by decide) (hst : (st.map fun v => v.category).sum ≤ 8 := by exact Nat.le_of_ble_eq_true rfl) : J X (K0 h1 d1 h2 d2) cc nL k pc lv (.ref (h1 0) :: st) (w1, w2) := jL_1i (As := []) (n := 0) (lw_V q100 q101 q102 q37 q103) (by decide +kernel) rfl hk (by decide) hst hd hM kk
theorem cL1_set {x0 x1 x2 : Int32} {kc : Nat} {post : Int32 → Wd → Prop} (hd : decode cc pc = .ok (.invokevirtual 26, 3)) (hM : Mi (gl X) (gD X) (K1 h1 d1) yX1_set cX1_set 5 kc (some .int) [.ref (h1 0), .int x0, .int x1, .int x2] w1 post) (kk : ∀ r w', post r w' → J X (K0 h1 d1 h2 d2) cc nL k (pc + 3) lv (.int r :: st) (w', w2)) (hk : kc + 1 ≤ k := by decide) (hst : (st.map fun v => v.category).sum ≤ 8 := by exact Nat.le_of_ble_eq_true rfl) : J X (K0 h1 d1 h2 d2) cc nL k pc lv (.int x2 :: .int x1 :: .int x0 :: .ref (h1 0) :: st) (w1, w2) := jL_1i (As := [.int x0, .int x1, .int x2]) (n := 3) (lw_V q104 q105 q106 q37 q107) (by decide +kernel) rfl hk (by decide) hst hd hM kk
theorem cL1_entry {x0 x1 : Int32} {kc : Nat} {post : Int32 → Wd → Prop} (hd : decode cc pc = .ok (.invokevirtual 31, 3)) (hM : Mi (gl X) (gD X) (K1 h1 d1) yX1_entry cX1_entry 3 kc (some .int) [.ref (h1 0), .int x0, .int x1] w1 post) (kk : ∀ r w', post r w' → J X (K0 h1 d1 h2 d2) cc nL k (pc + 3) lv (.int r :: st) (w', w2)) (hk : kc + 1 ≤ k := by decide) (hst : (st.map fun v => v.category).sum ≤ 8 := by exact Nat.le_of_ble_eq_true rfl) : J X (K0 h1 d1 h2 d2) cc nL k pc lv (.int x1 :: .int x0 :: .ref (h1 0) :: st) (w1, w2) := jL_1i (As := [.int x0, .int x1]) (n := 2) (lw_V q115 q116 q117 q37 q118) (by decide +kernel) rfl hk (by decide) hst hd hM kk
theorem cL1_compatible {x0 x1 : Int32} {kc : Nat} {post : Int32 → Wd → Prop} (hd : decode cc pc = .ok (.invokevirtual 36, 3)) (hM : Mi (gl X) (gD X) (K1 h1 d1) yX1_compatible cX1_compatible 3 kc (some .int) [.ref (h1 0), .int x0, .int x1] w1 post) (kk : ∀ r w', post r w' → J X (K0 h1 d1 h2 d2) cc nL k (pc + 3) lv (.int r :: st) (w', w2)) (hk : kc + 1 ≤ k := by decide) (hst : (st.map fun v => v.category).sum ≤ 8 := by exact Nat.le_of_ble_eq_true rfl) : J X (K0 h1 d1 h2 d2) cc nL k pc lv (.int x1 :: .int x0 :: .ref (h1 0) :: st) (w1, w2) := jL_1i (As := [.int x0, .int x1]) (n := 2) (lw_V q119 q120 q121 q37 q122) (by decide +kernel) rfl hk (by decide) hst hd hM kk
theorem cL1_splitLength {x0 x1 : Int32} {kc : Nat} {post : Int32 → Wd → Prop} (hd : decode cc pc = .ok (.invokevirtual 40, 3)) (hM : Mi (gl X) (gD X) (K1 h1 d1) yX1_splitLength cX1_splitLength 4 kc (some .int) [.ref (h1 0), .int x0, .int x1] w1 post) (kk : ∀ r w', post r w' → J X (K0 h1 d1 h2 d2) cc nL k (pc + 3) lv (.int r :: st) (w', w2)) (hk : kc + 1 ≤ k := by decide) (hst : (st.map fun v => v.category).sum ≤ 8 := by exact Nat.le_of_ble_eq_true rfl) : J X (K0 h1 d1 h2 d2) cc nL k pc lv (.int x1 :: .int x0 :: .ref (h1 0) :: st) (w1, w2) := jL_1i (As := [.int x0, .int x1]) (n := 2) (lw_V q180 q181 q182 q37 q183) (by decide +kernel) rfl hk (by decide) hst hd hM kk
theorem cL1_splitWord {x0 x1 : Int32} {kc : Nat} {post : Int32 → Wd → Prop} (hd : decode cc pc = .ok (.invokevirtual 44, 3)) (hM : Mi (gl X) (gD X) (K1 h1 d1) yX1_splitWord cX1_splitWord 9 kc (some .int) [.ref (h1 0), .int x0, .int x1] w1 post) (kk : ∀ r w', post r w' → J X (K0 h1 d1 h2 d2) cc nL k (pc + 3) lv (.int r :: st) (w', w2)) (hk : kc + 1 ≤ k := by decide) (hst : (st.map fun v => v.category).sum ≤ 8 := by exact Nat.le_of_ble_eq_true rfl) : J X (K0 h1 d1 h2 d2) cc nL k pc lv (.int x1 :: .int x0 :: .ref (h1 0) :: st) (w1, w2) := jL_1i (As := [.int x0, .int x1]) (n := 2) (lw_V q184 q185 q186 q37 q187) (by decide +kernel) rfl hk (by decide) hst hd hM kk
theorem cL1_compatibleSet {x0 : Int32} {kc : Nat} {post : Int32 → Wd → Prop} (hd : decode cc pc = .ok (.invokevirtual 48, 3)) (hM : Mi (gl X) (gD X) (K1 h1 d1) yX1_compatibleSet cX1_compatibleSet 2 kc (some .int) [.ref (h1 0), .int x0] w1 post) (kk : ∀ r w', post r w' → J X (K0 h1 d1 h2 d2) cc nL k (pc + 3) lv (.int r :: st) (w', w2)) (hk : kc + 1 ≤ k := by decide) (hst : (st.map fun v => v.category).sum ≤ 8 := by exact Nat.le_of_ble_eq_true rfl) : J X (K0 h1 d1 h2 d2) cc nL k pc lv (.int x0 :: .ref (h1 0) :: st) (w1, w2) := jL_1i (As := [.int x0]) (n := 1) (lw_V q188 q189 q190 q37 q191) (by decide +kernel) rfl hk (by decide) hst hd hM kk
theorem cL1_maximals {kc : Nat} {post : Int32 → Wd → Prop} (hd : decode cc pc = .ok (.invokevirtual 53, 3)) (hM : Mi (gl X) (gD X) (K1 h1 d1) yX1_maximals cX1_maximals 1 kc (some .int) [.ref (h1 0)] w1 post) (kk : ∀ r w', post r w' → J X (K0 h1 d1 h2 d2) cc nL k (pc + 3) lv (.int r :: st) (w', w2)) (hk : kc + 1 ≤ k := by decide) (hst : (st.map fun v => v.category).sum ≤ 8 := by exact Nat.le_of_ble_eq_true rfl) : J X (K0 h1 d1 h2 d2) cc nL k pc lv (.ref (h1 0) :: st) (w1, w2) := jL_1i (As := []) (n := 0) (lw_V q196 q197 q198 q37 q199) (by decide +kernel) rfl hk (by decide) hst hd hM kk
theorem cL1_maximal {x0 : Int32} {kc : Nat} {post : Int32 → Wd → Prop} (hd : decode cc pc = .ok (.invokevirtual 57, 3)) (hM : Mi (gl X) (gD X) (K1 h1 d1) yX1_maximal cX1_maximal 2 kc (some .int) [.ref (h1 0), .int x0] w1 post) (kk : ∀ r w', post r w' → J X (K0 h1 d1 h2 d2) cc nL k (pc + 3) lv (.int r :: st) (w', w2)) (hk : kc + 1 ≤ k := by decide) (hst : (st.map fun v => v.category).sum ≤ 8 := by exact Nat.le_of_ble_eq_true rfl) : J X (K0 h1 d1 h2 d2) cc nL k pc lv (.int x0 :: .ref (h1 0) :: st) (w1, w2) := jL_1i (As := [.int x0]) (n := 1) (lw_V q200 q201 q202 q37 q203) (by decide +kernel) rfl hk (by decide) hst hd hM kk
theorem cL1_implied {x0 x1 : Int32} {kc : Nat} {post : Int32 → Wd → Prop} (hd : decode cc pc = .ok (.invokevirtual 61, 3)) (hM : Mi (gl X) (gD X) (K1 h1 d1) yX1_implied cX1_implied 3 kc (some .int) [.ref (h1 0), .int x0, .int x1] w1 post) (kk : ∀ r w', post r w' → J X (K0 h1 d1 h2 d2) cc nL k (pc + 3) lv (.int r :: st) (w', w2)) (hk : kc + 1 ≤ k := by decide) (hst : (st.map fun v => v.category).sum ≤ 8 := by exact Nat.le_of_ble_eq_true rfl) : J X (K0 h1 d1 h2 d2) cc nL k pc lv (.int x1 :: .int x0 :: .ref (h1 0) :: st) (w1, w2) := jL_1i (As := [.int x0, .int x1]) (n := 2) (lw_V q204 q205 q206 q37 q207) (by decide +kernel) rfl hk (by decide) hst hd hM kk
theorem cL1_coverSize {kc : Nat} {post : Int32 → Wd → Prop} (hd : decode cc pc = .ok (.invokevirtual 65, 3)) (hM : Mi (gl X) (gD X) (K1 h1 d1) yX1_coverSize cX1_coverSize 1 kc (some .int) [.ref (h1 0)] w1 post) (kk : ∀ r w', post r w' → J X (K0 h1 d1 h2 d2) cc nL k (pc + 3) lv (.int r :: st) (w', w2)) (hk : kc + 1 ≤ k := by decide) (hst : (st.map fun v => v.category).sum ≤ 8 := by exact Nat.le_of_ble_eq_true rfl) : J X (K0 h1 d1 h2 d2) cc nL k pc lv (.ref (h1 0) :: st) (w1, w2) := jL_1i (As := []) (n := 0) (lw_V q208 q209 q210 q37 q211) (by decide +kernel) rfl hk (by decide) hst hd hM kk
theorem cL1_coverSet {x0 : Int32} {kc : Nat} {post : Int32 → Wd → Prop} (hd : decode cc pc = .ok (.invokevirtual 69, 3)) (hM : Mi (gl X) (gD X) (K1 h1 d1) yX1_coverSet cX1_coverSet 2 kc (some .int) [.ref (h1 0), .int x0] w1 post) (kk : ∀ r w', post r w' → J X (K0 h1 d1 h2 d2) cc nL k (pc + 3) lv (.int r :: st) (w', w2)) (hk : kc + 1 ≤ k := by decide) (hst : (st.map fun v => v.category).sum ≤ 8 := by exact Nat.le_of_ble_eq_true rfl) : J X (K0 h1 d1 h2 d2) cc nL k pc lv (.int x0 :: .ref (h1 0) :: st) (w1, w2) := jL_1i (As := [.int x0]) (n := 1) (lw_V q212 q213 q214 q37 q215) (by decide +kernel) rfl hk (by decide) hst hd hM kk
theorem cL1_isCover {x0 x1 x2 : Int32} {kc : Nat} {post : Int32 → Wd → Prop} (hd : decode cc pc = .ok (.invokevirtual 73, 3)) (hM : Mi (gl X) (gD X) (K1 h1 d1) yX1_isCover cX1_isCover 10 kc (some .int) [.ref (h1 0), .int x0, .int x1, .int x2] w1 post) (kk : ∀ r w', post r w' → J X (K0 h1 d1 h2 d2) cc nL k (pc + 3) lv (.int r :: st) (w', w2)) (hk : kc + 1 ≤ k := by decide) (hst : (st.map fun v => v.category).sum ≤ 8 := by exact Nat.le_of_ble_eq_true rfl) : J X (K0 h1 d1 h2 d2) cc nL k pc lv (.int x2 :: .int x1 :: .int x0 :: .ref (h1 0) :: st) (w1, w2) := jL_1i (As := [.int x0, .int x1, .int x2]) (n := 3) (lw_V q216 q217 q218 q37 q219) (by decide +kernel) rfl hk (by decide) hst hd hM kk
theorem cL1_restart {kc : Nat} {post : Wd → Prop} (hd : decode cc pc = .ok (.invokevirtual 77, 3)) (hM : Mv (gl X) (gD X) (K1 h1 d1) yX1_restart cX1_restart 1 kc [.ref (h1 0)] w1 post) (kk : ∀ w', post w' → J X (K0 h1 d1 h2 d2) cc nL k (pc + 3) lv st (w', w2)) (hk : kc + 1 ≤ k := by decide) (hst : (st.map fun v => v.category).sum ≤ 8 := by exact Nat.le_of_ble_eq_true rfl) : J X (K0 h1 d1 h2 d2) cc nL k pc lv (.ref (h1 0) :: st) (w1, w2) := jL_1v (As := []) (n := 0) (lw_V q223 q224 q225 q37 q226) (by decide +kernel) rfl hk (by decide) hst hd hM kk
theorem cL1_read {x0 : Int32} {kc : Nat} {post : Int32 → Wd → Prop} (hd : decode cc pc = .ok (.invokevirtual 81, 3)) (hM : Mi (gl X) (gD X) (K1 h1 d1) yX1_read cX1_read 4 kc (some .int) [.ref (h1 0), .int x0] w1 post) (kk : ∀ r w', post r w' → J X (K0 h1 d1 h2 d2) cc nL k (pc + 3) lv (.int r :: st) (w', w2)) (hk : kc + 1 ≤ k := by decide) (hst : (st.map fun v => v.category).sum ≤ 8 := by exact Nat.le_of_ble_eq_true rfl) : J X (K0 h1 d1 h2 d2) cc nL k pc lv (.int x0 :: .ref (h1 0) :: st) (w1, w2) := jL_1i (As := [.int x0]) (n := 1) (lw_V q227 q228 q229 q37 q230) (by decide +kernel) rfl hk (by decide) hst hd hM kk
theorem cL1_lost {kc : Nat} {post : Int32 → Wd → Prop} (hd : decode cc pc = .ok (.invokevirtual 85, 3)) (hM : Mi (gl X) (gD X) (K1 h1 d1) yX1_lost cX1_lost 1 kc (some .int) [.ref (h1 0)] w1 post) (kk : ∀ r w', post r w' → J X (K0 h1 d1 h2 d2) cc nL k (pc + 3) lv (.int r :: st) (w', w2)) (hk : kc + 1 ≤ k := by decide) (hst : (st.map fun v => v.category).sum ≤ 8 := by exact Nat.le_of_ble_eq_true rfl) : J X (K0 h1 d1 h2 d2) cc nL k pc lv (.ref (h1 0) :: st) (w1, w2) := jL_1i (As := []) (n := 0) (lw_V q231 q232 q233 q37 q234) (by decide +kernel) rfl hk (by decide) hst hd hM kk
theorem cL2_states {kc : Nat} {post : Int32 → Wd → Prop} (hd : decode cc pc = .ok (.invokevirtual 25, 3)) (hM : Mi (gl X) (gD X) (K2 h2 d2) yX2_states cX2_states 1 kc (some .int) [.ref (h2 0)] w2 post) (kk : ∀ r w', post r w' → J X (K0 h1 d1 h2 d2) cc nL k (pc + 3) lv (.int r :: st) (w1, w')) (hk : kc + 1 ≤ k := by decide) (hst : (st.map fun v => v.category).sum ≤ 8 := by exact Nat.le_of_ble_eq_true rfl) : J X (K0 h1 d1 h2 d2) cc nL k pc lv (.ref (h2 0) :: st) (w1, w2) := jL_2i (As := []) (n := 0) (lw_V q264 q265 q266 q38 q267) (by decide +kernel) rfl hk (by decide) hst hd hM kk
theorem cL2_set {x0 x1 x2 : Int32} {kc : Nat} {post : Int32 → Wd → Prop} (hd : decode cc pc = .ok (.invokevirtual 30, 3)) (hM : Mi (gl X) (gD X) (K2 h2 d2) yX2_set cX2_set 5 kc (some .int) [.ref (h2 0), .int x0, .int x1, .int x2] w2 post) (kk : ∀ r w', post r w' → J X (K0 h1 d1 h2 d2) cc nL k (pc + 3) lv (.int r :: st) (w1, w')) (hk : kc + 1 ≤ k := by decide) (hst : (st.map fun v => v.category).sum ≤ 8 := by exact Nat.le_of_ble_eq_true rfl) : J X (K0 h1 d1 h2 d2) cc nL k pc lv (.int x2 :: .int x1 :: .int x0 :: .ref (h2 0) :: st) (w1, w2) := jL_2i (As := [.int x0, .int x1, .int x2]) (n := 3) (lw_V q268 q269 q270 q38 q271) (by decide +kernel) rfl hk (by decide) hst hd hM kk
theorem cL2_entry {x0 x1 : Int32} {kc : Nat} {post : Int32 → Wd → Prop} (hd : decode cc pc = .ok (.invokevirtual 35, 3)) (hM : Mi (gl X) (gD X) (K2 h2 d2) yX2_entry cX2_entry 3 kc (some .int) [.ref (h2 0), .int x0, .int x1] w2 post) (kk : ∀ r w', post r w' → J X (K0 h1 d1 h2 d2) cc nL k (pc + 3) lv (.int r :: st) (w1, w')) (hk : kc + 1 ≤ k := by decide) (hst : (st.map fun v => v.category).sum ≤ 8 := by exact Nat.le_of_ble_eq_true rfl) : J X (K0 h1 d1 h2 d2) cc nL k pc lv (.int x1 :: .int x0 :: .ref (h2 0) :: st) (w1, w2) := jL_2i (As := [.int x0, .int x1]) (n := 2) (lw_V q280 q281 q282 q38 q283) (by decide +kernel) rfl hk (by decide) hst hd hM kk
theorem cL2_compatible {x0 x1 : Int32} {kc : Nat} {post : Int32 → Wd → Prop} (hd : decode cc pc = .ok (.invokevirtual 39, 3)) (hM : Mi (gl X) (gD X) (K2 h2 d2) yX2_compatible cX2_compatible 3 kc (some .int) [.ref (h2 0), .int x0, .int x1] w2 post) (kk : ∀ r w', post r w' → J X (K0 h1 d1 h2 d2) cc nL k (pc + 3) lv (.int r :: st) (w1, w')) (hk : kc + 1 ≤ k := by decide) (hst : (st.map fun v => v.category).sum ≤ 8 := by exact Nat.le_of_ble_eq_true rfl) : J X (K0 h1 d1 h2 d2) cc nL k pc lv (.int x1 :: .int x0 :: .ref (h2 0) :: st) (w1, w2) := jL_2i (As := [.int x0, .int x1]) (n := 2) (lw_V q284 q285 q286 q38 q287) (by decide +kernel) rfl hk (by decide) hst hd hM kk
theorem cL2_splitLength {x0 x1 : Int32} {kc : Nat} {post : Int32 → Wd → Prop} (hd : decode cc pc = .ok (.invokevirtual 43, 3)) (hM : Mi (gl X) (gD X) (K2 h2 d2) yX2_splitLength cX2_splitLength 4 kc (some .int) [.ref (h2 0), .int x0, .int x1] w2 post) (kk : ∀ r w', post r w' → J X (K0 h1 d1 h2 d2) cc nL k (pc + 3) lv (.int r :: st) (w1, w')) (hk : kc + 1 ≤ k := by decide) (hst : (st.map fun v => v.category).sum ≤ 8 := by exact Nat.le_of_ble_eq_true rfl) : J X (K0 h1 d1 h2 d2) cc nL k pc lv (.int x1 :: .int x0 :: .ref (h2 0) :: st) (w1, w2) := jL_2i (As := [.int x0, .int x1]) (n := 2) (lw_V q308 q309 q310 q38 q311) (by decide +kernel) rfl hk (by decide) hst hd hM kk
theorem cL2_splitWord {x0 x1 : Int32} {kc : Nat} {post : Int32 → Wd → Prop} (hd : decode cc pc = .ok (.invokevirtual 47, 3)) (hM : Mi (gl X) (gD X) (K2 h2 d2) yX2_splitWord cX2_splitWord 4 kc (some .int) [.ref (h2 0), .int x0, .int x1] w2 post) (kk : ∀ r w', post r w' → J X (K0 h1 d1 h2 d2) cc nL k (pc + 3) lv (.int r :: st) (w1, w')) (hk : kc + 1 ≤ k := by decide) (hst : (st.map fun v => v.category).sum ≤ 8 := by exact Nat.le_of_ble_eq_true rfl) : J X (K0 h1 d1 h2 d2) cc nL k pc lv (.int x1 :: .int x0 :: .ref (h2 0) :: st) (w1, w2) := jL_2i (As := [.int x0, .int x1]) (n := 2) (lw_V q312 q313 q314 q38 q315) (by decide +kernel) rfl hk (by decide) hst hd hM kk
theorem cL2_compatibleSet {x0 : Int32} {kc : Nat} {post : Int32 → Wd → Prop} (hd : decode cc pc = .ok (.invokevirtual 52, 3)) (hM : Mi (gl X) (gD X) (K2 h2 d2) yX2_compatibleSet cX2_compatibleSet 2 kc (some .int) [.ref (h2 0), .int x0] w2 post) (kk : ∀ r w', post r w' → J X (K0 h1 d1 h2 d2) cc nL k (pc + 3) lv (.int r :: st) (w1, w')) (hk : kc + 1 ≤ k := by decide) (hst : (st.map fun v => v.category).sum ≤ 8 := by exact Nat.le_of_ble_eq_true rfl) : J X (K0 h1 d1 h2 d2) cc nL k pc lv (.int x0 :: .ref (h2 0) :: st) (w1, w2) := jL_2i (As := [.int x0]) (n := 1) (lw_V q316 q317 q318 q38 q319) (by decide +kernel) rfl hk (by decide) hst hd hM kk
theorem cL2_maximals {kc : Nat} {post : Int32 → Wd → Prop} (hd : decode cc pc = .ok (.invokevirtual 56, 3)) (hM : Mi (gl X) (gD X) (K2 h2 d2) yX2_maximals cX2_maximals 3 kc (some .int) [.ref (h2 0)] w2 post) (kk : ∀ r w', post r w' → J X (K0 h1 d1 h2 d2) cc nL k (pc + 3) lv (.int r :: st) (w1, w')) (hk : kc + 1 ≤ k := by decide) (hst : (st.map fun v => v.category).sum ≤ 8 := by exact Nat.le_of_ble_eq_true rfl) : J X (K0 h1 d1 h2 d2) cc nL k pc lv (.ref (h2 0) :: st) (w1, w2) := jL_2i (As := []) (n := 0) (lw_V q336 q337 q338 q38 q339) (by decide +kernel) rfl hk (by decide) hst hd hM kk
theorem cL2_maximal {x0 : Int32} {kc : Nat} {post : Int32 → Wd → Prop} (hd : decode cc pc = .ok (.invokevirtual 60, 3)) (hM : Mi (gl X) (gD X) (K2 h2 d2) yX2_maximal cX2_maximal 4 kc (some .int) [.ref (h2 0), .int x0] w2 post) (kk : ∀ r w', post r w' → J X (K0 h1 d1 h2 d2) cc nL k (pc + 3) lv (.int r :: st) (w1, w')) (hk : kc + 1 ≤ k := by decide) (hst : (st.map fun v => v.category).sum ≤ 8 := by exact Nat.le_of_ble_eq_true rfl) : J X (K0 h1 d1 h2 d2) cc nL k pc lv (.int x0 :: .ref (h2 0) :: st) (w1, w2) := jL_2i (As := [.int x0]) (n := 1) (lw_V q344 q345 q346 q38 q347) (by decide +kernel) rfl hk (by decide) hst hd hM kk
theorem cL2_implied {x0 x1 : Int32} {kc : Nat} {post : Int32 → Wd → Prop} (hd : decode cc pc = .ok (.invokevirtual 64, 3)) (hM : Mi (gl X) (gD X) (K2 h2 d2) yX2_implied cX2_implied 3 kc (some .int) [.ref (h2 0), .int x0, .int x1] w2 post) (kk : ∀ r w', post r w' → J X (K0 h1 d1 h2 d2) cc nL k (pc + 3) lv (.int r :: st) (w1, w')) (hk : kc + 1 ≤ k := by decide) (hst : (st.map fun v => v.category).sum ≤ 8 := by exact Nat.le_of_ble_eq_true rfl) : J X (K0 h1 d1 h2 d2) cc nL k pc lv (.int x1 :: .int x0 :: .ref (h2 0) :: st) (w1, w2) := jL_2i (As := [.int x0, .int x1]) (n := 2) (lw_V q348 q349 q350 q38 q351) (by decide +kernel) rfl hk (by decide) hst hd hM kk
theorem cL2_coverSize {kc : Nat} {post : Int32 → Wd → Prop} (hd : decode cc pc = .ok (.invokevirtual 68, 3)) (hM : Mi (gl X) (gD X) (K2 h2 d2) yX2_coverSize cX2_coverSize 1 kc (some .int) [.ref (h2 0)] w2 post) (kk : ∀ r w', post r w' → J X (K0 h1 d1 h2 d2) cc nL k (pc + 3) lv (.int r :: st) (w1, w')) (hk : kc + 1 ≤ k := by decide) (hst : (st.map fun v => v.category).sum ≤ 8 := by exact Nat.le_of_ble_eq_true rfl) : J X (K0 h1 d1 h2 d2) cc nL k pc lv (.ref (h2 0) :: st) (w1, w2) := jL_2i (As := []) (n := 0) (lw_V q356 q357 q358 q38 q359) (by decide +kernel) rfl hk (by decide) hst hd hM kk
theorem cL2_coverSet {x0 : Int32} {kc : Nat} {post : Int32 → Wd → Prop} (hd : decode cc pc = .ok (.invokevirtual 72, 3)) (hM : Mi (gl X) (gD X) (K2 h2 d2) yX2_coverSet cX2_coverSet 2 kc (some .int) [.ref (h2 0), .int x0] w2 post) (kk : ∀ r w', post r w' → J X (K0 h1 d1 h2 d2) cc nL k (pc + 3) lv (.int r :: st) (w1, w')) (hk : kc + 1 ≤ k := by decide) (hst : (st.map fun v => v.category).sum ≤ 8 := by exact Nat.le_of_ble_eq_true rfl) : J X (K0 h1 d1 h2 d2) cc nL k pc lv (.int x0 :: .ref (h2 0) :: st) (w1, w2) := jL_2i (As := [.int x0]) (n := 1) (lw_V q385 q386 q387 q38 q388) (by decide +kernel) rfl hk (by decide) hst hd hM kk
theorem cL2_isCover {x0 x1 x2 : Int32} {kc : Nat} {post : Int32 → Wd → Prop} (hd : decode cc pc = .ok (.invokevirtual 76, 3)) (hM : Mi (gl X) (gD X) (K2 h2 d2) yX2_isCover cX2_isCover 5 kc (some .int) [.ref (h2 0), .int x0, .int x1, .int x2] w2 post) (kk : ∀ r w', post r w' → J X (K0 h1 d1 h2 d2) cc nL k (pc + 3) lv (.int r :: st) (w1, w')) (hk : kc + 1 ≤ k := by decide) (hst : (st.map fun v => v.category).sum ≤ 8 := by exact Nat.le_of_ble_eq_true rfl) : J X (K0 h1 d1 h2 d2) cc nL k pc lv (.int x2 :: .int x1 :: .int x0 :: .ref (h2 0) :: st) (w1, w2) := jL_2i (As := [.int x0, .int x1, .int x2]) (n := 3) (lw_V q389 q390 q391 q38 q392) (by decide +kernel) rfl hk (by decide) hst hd hM kk
theorem cL2_restart {kc : Nat} {post : Wd → Prop} (hd : decode cc pc = .ok (.invokevirtual 80, 3)) (hM : Mv (gl X) (gD X) (K2 h2 d2) yX2_restart cX2_restart 1 kc [.ref (h2 0)] w2 post) (kk : ∀ w', post w' → J X (K0 h1 d1 h2 d2) cc nL k (pc + 3) lv st (w1, w')) (hk : kc + 1 ≤ k := by decide) (hst : (st.map fun v => v.category).sum ≤ 8 := by exact Nat.le_of_ble_eq_true rfl) : J X (K0 h1 d1 h2 d2) cc nL k pc lv (.ref (h2 0) :: st) (w1, w2) := jL_2v (As := []) (n := 0) (lw_V q397 q398 q399 q38 q400) (by decide +kernel) rfl hk (by decide) hst hd hM kk
theorem cL2_read {x0 : Int32} {kc : Nat} {post : Int32 → Wd → Prop} (hd : decode cc pc = .ok (.invokevirtual 84, 3)) (hM : Mi (gl X) (gD X) (K2 h2 d2) yX2_read cX2_read 3 kc (some .int) [.ref (h2 0), .int x0] w2 post) (kk : ∀ r w', post r w' → J X (K0 h1 d1 h2 d2) cc nL k (pc + 3) lv (.int r :: st) (w1, w')) (hk : kc + 1 ≤ k := by decide) (hst : (st.map fun v => v.category).sum ≤ 8 := by exact Nat.le_of_ble_eq_true rfl) : J X (K0 h1 d1 h2 d2) cc nL k pc lv (.int x0 :: .ref (h2 0) :: st) (w1, w2) := jL_2i (As := [.int x0]) (n := 1) (lw_V q401 q402 q403 q38 q404) (by decide +kernel) rfl hk (by decide) hst hd hM kk
theorem cL2_lost {kc : Nat} {post : Int32 → Wd → Prop} (hd : decode cc pc = .ok (.invokevirtual 88, 3)) (hM : Mi (gl X) (gD X) (K2 h2 d2) yX2_lost cX2_lost 1 kc (some .int) [.ref (h2 0)] w2 post) (kk : ∀ r w', post r w' → J X (K0 h1 d1 h2 d2) cc nL k (pc + 3) lv (.int r :: st) (w1, w')) (hk : kc + 1 ≤ k := by decide) (hst : (st.map fun v => v.category).sum ≤ 8 := by exact Nat.le_of_ble_eq_true rfl) : J X (K0 h1 d1 h2 d2) cc nL k pc lv (.ref (h2 0) :: st) (w1, w2) := jL_2i (As := []) (n := 0) (lw_V q405 q406 q407 q38 q408) (by decide +kernel) rfl hk (by decide) hst hd hM kk
end JLaw
theorem nI_inc4 (i : Nat) : nI i + Int32.ofInt 4 = nI (i + 4) := by
  rw [show Int32.ofInt 4 = nI 4 by decide, nI_add]
set_option maxHeartbeats 4000000 in
theorem law_loop {X : Gm} {h1 : Nat → Nat} {d1 : Nat → ClassId} {h2 : Nat → Nat} {d2 : Nat → ClassId} {b L : Nat} {xs : Nat → Int32} (hL : L ≤ 257) (hs : Scr X b L xs) (fin : ∀ (lv : List Value) (w : Wd × Wd), J X (K0 h1 d1 h2 d2) code 4 9 533 lv [.int 1] w) :
    ∀ m i, i ≤ 1000 → L < i + m → ∀ n E st w1 w2, Inv1 n E st w1 → Inv2 n E st w2 → J X (K0 h1 d1 h2 d2) code 4 9 28 [.ref b, .ref (h1 0), .ref (h2 0), .int (nI i)] [] (w1, w2) := by
  intro m
  induction m with
  | zero =>
    intro i hi0 hi n E st w1 w2 iv1 iv2
    refine j_il3n (pc := 28) dL_law_28 ?_
    refine j_al0n (pc := 29) dL_law_29 ?_
    refine jL_slen (pc := 30) hs dL_law_30 ?_
    refine j_iconst (pc := 31) (nI 4) dL_law_31 (by decide) ?_
    refine j_isub (pc := 32) dL_law_32 ?_
    refine j_icmp_gt (pc := 33) 532 dL_law_33 (by decide) (fun c => ?_) (fun c => ?_)
    · refine j_iconst (pc := 532) 1 dL_law_532 (by decide) ?_
      exact fin _ _
    · rw [Int32.lt_iff_toInt_lt, pk_sub_toInt (by omega) (by decide), nI_toInt (by omega)] at c
      omega
  | succ m ih =>
    intro i hi0 hi n E st w1 w2 iv1 iv2
    refine j_il3n (pc := 28) dL_law_28 ?_
    refine j_al0n (pc := 29) dL_law_29 ?_
    refine jL_slen (pc := 30) hs dL_law_30 ?_
    refine j_iconst (pc := 31) (nI 4) dL_law_31 (by decide) ?_
    refine j_isub (pc := 32) dL_law_32 ?_
    refine j_icmp_gt (pc := 33) 532 dL_law_33 (by decide) (fun c => ?_) (fun c => ?_)
    · refine j_iconst (pc := 532) 1 dL_law_532 (by decide) ?_
      exact fin _ _
    rw [Int32.lt_iff_toInt_lt, pk_sub_toInt (by omega) (by decide), nI_toInt (by omega)] at c
    have hi4 : i + 3 < L := by omega
    have nxt : ∀ n E st w1 w2, Inv1 n E st w1 → Inv2 n E st w2 → J X (K0 h1 d1 h2 d2) code 4 9 526 [.ref b, .ref (h1 0), .ref (h2 0), .int (nI i)] [] (w1, w2) := by
      intro n E st w1 w2 iv1 iv2
      refine j_inc3 (pc := 526) (nI (i + 4)) dL_law_526 (nI_inc4 i) ?_
      refine j_goto (pc := 529) 28 dL_law_529 (by decide) ?_
      exact ih (i + 4) (by omega) (by omega) n E st w1 w2 iv1 iv2
    refine j_al0n (pc := 36) dL_law_36 ?_
    refine j_il3n (pc := 37) dL_law_37 ?_
    refine jL_sld (pc := 38) hs dL_law_38 (by omega) (by omega) ?_
    refine j_bipush (pc := 39) (nI 15) dL_law_39 (by decide) ?_
    refine j_iand (pc := 41) dL_law_41 ?_
    obtain ⟨j, hj, ej⟩ := pk_andE (xs i) (m := nI 15) 4 (by decide)
    rw [ej]
    have hj : j < 16 := hj
    rcases (show j = 0 ∨ j = 1 ∨ j = 2 ∨ j = 3 ∨ j = 4 ∨ j = 5 ∨ j = 6 ∨ j = 7 ∨ j = 8 ∨ j = 9 ∨ j = 10 ∨ j = 11 ∨ j = 12 ∨ j = 13 ∨ j = 14 ∨ j = 15 by omega) with rfl | rfl | rfl | rfl | rfl | rfl | rfl | rfl | rfl | rfl | rfl | rfl | rfl | rfl | rfl | rfl
    · refine jL_tab (pc := 42) 120 dL_law_42 (by decide) (by decide) rfl (by decide) ?_
      refine j_al1n (pc := 120) dL_law_120 ?_
      refine cL1_states (pc := 121) dL_law_121 (m1_statesP iv1) (fun r1 u1 e1 => ?_)
      refine j_al2n (pc := 124) dL_law_124 ?_
      refine cL2_states (pc := 125) dL_law_125 (m2_states iv2) (fun r2 u2 e2 => ?_)
      refine j_icmp_eq (pc := 128) 526 dL_law_128 (by decide) (fun _ => nxt _ _ _ _ _ e1.2 e2.2) (fun ne => absurd ?_ ne)
      rw [e1.1, e2.1]
    · refine jL_tab (pc := 42) 133 dL_law_42 (by decide) (by decide) rfl (by decide) ?_
      refine j_al1n (pc := 133) dL_law_133 ?_
      refine j_al0n (pc := 134) dL_law_134 ?_
      refine j_il3n (pc := 135) dL_law_135 ?_
      refine j_iconst (pc := 136) (nI 1) dL_law_136 (by decide) ?_
      refine j_iaddN (pc := 137) dL_law_137 ?_
      refine jL_sld (pc := 138) hs dL_law_138 (by omega) (by omega) ?_
      refine j_al0n (pc := 139) dL_law_139 ?_
      refine j_il3n (pc := 140) dL_law_140 ?_
      refine j_iconst (pc := 141) (nI 2) dL_law_141 (by decide) ?_
      refine j_iaddN (pc := 142) dL_law_142 ?_
      refine jL_sld (pc := 143) hs dL_law_143 (by omega) (by omega) ?_
      refine j_al0n (pc := 144) dL_law_144 ?_
      refine j_il3n (pc := 145) dL_law_145 ?_
      refine j_iconst (pc := 146) (nI 3) dL_law_146 (by decide) ?_
      refine j_iaddN (pc := 147) dL_law_147 ?_
      refine jL_sld (pc := 148) hs dL_law_148 (by omega) (by omega) ?_
      refine cL1_set (pc := 149) dL_law_149 (m1_set iv1 (xs (i + 1)) (xs (i + 2)) (xs (i + 3))) (fun r1 u1 e1 => ?_)
      refine j_al2n (pc := 152) dL_law_152 ?_
      refine j_al0n (pc := 153) dL_law_153 ?_
      refine j_il3n (pc := 154) dL_law_154 ?_
      refine j_iconst (pc := 155) (nI 1) dL_law_155 (by decide) ?_
      refine j_iaddN (pc := 156) dL_law_156 ?_
      refine jL_sld (pc := 157) hs dL_law_157 (by omega) (by omega) ?_
      refine j_al0n (pc := 158) dL_law_158 ?_
      refine j_il3n (pc := 159) dL_law_159 ?_
      refine j_iconst (pc := 160) (nI 2) dL_law_160 (by decide) ?_
      refine j_iaddN (pc := 161) dL_law_161 ?_
      refine jL_sld (pc := 162) hs dL_law_162 (by omega) (by omega) ?_
      refine j_al0n (pc := 163) dL_law_163 ?_
      refine j_il3n (pc := 164) dL_law_164 ?_
      refine j_iconst (pc := 165) (nI 3) dL_law_165 (by decide) ?_
      refine j_iaddN (pc := 166) dL_law_166 ?_
      refine jL_sld (pc := 167) hs dL_law_167 (by omega) (by omega) ?_
      refine cL2_set (pc := 168) dL_law_168 (m2_set iv2 (xs (i + 1)) (xs (i + 2)) (xs (i + 3))) (fun r2 u2 e2 => ?_)
      refine j_icmp_eq (pc := 171) 526 dL_law_171 (by decide) (fun _ => nxt _ _ _ _ _ e1.2 e2.2) (fun ne => absurd ?_ ne)
      rw [e1.1, e2.1]
    · refine jL_tab (pc := 42) 176 dL_law_42 (by decide) (by decide) rfl (by decide) ?_
      refine j_al1n (pc := 176) dL_law_176 ?_
      refine j_al0n (pc := 177) dL_law_177 ?_
      refine j_il3n (pc := 178) dL_law_178 ?_
      refine j_iconst (pc := 179) (nI 1) dL_law_179 (by decide) ?_
      refine j_iaddN (pc := 180) dL_law_180 ?_
      refine jL_sld (pc := 181) hs dL_law_181 (by omega) (by omega) ?_
      refine j_al0n (pc := 182) dL_law_182 ?_
      refine j_il3n (pc := 183) dL_law_183 ?_
      refine j_iconst (pc := 184) (nI 2) dL_law_184 (by decide) ?_
      refine j_iaddN (pc := 185) dL_law_185 ?_
      refine jL_sld (pc := 186) hs dL_law_186 (by omega) (by omega) ?_
      refine cL1_entry (pc := 187) dL_law_187 (m1_entry iv1 (xs (i + 1)) (xs (i + 2))) (fun r1 u1 e1 => ?_)
      refine j_al2n (pc := 190) dL_law_190 ?_
      refine j_al0n (pc := 191) dL_law_191 ?_
      refine j_il3n (pc := 192) dL_law_192 ?_
      refine j_iconst (pc := 193) (nI 1) dL_law_193 (by decide) ?_
      refine j_iaddN (pc := 194) dL_law_194 ?_
      refine jL_sld (pc := 195) hs dL_law_195 (by omega) (by omega) ?_
      refine j_al0n (pc := 196) dL_law_196 ?_
      refine j_il3n (pc := 197) dL_law_197 ?_
      refine j_iconst (pc := 198) (nI 2) dL_law_198 (by decide) ?_
      refine j_iaddN (pc := 199) dL_law_199 ?_
      refine jL_sld (pc := 200) hs dL_law_200 (by omega) (by omega) ?_
      refine cL2_entry (pc := 201) dL_law_201 (m2_entry iv2 (xs (i + 1)) (xs (i + 2))) (fun r2 u2 e2 => ?_)
      refine j_icmp_eq (pc := 204) 526 dL_law_204 (by decide) (fun _ => nxt _ _ _ _ _ e1.2 e2.2) (fun ne => absurd ?_ ne)
      rw [e1.1, e2.1]
    · refine jL_tab (pc := 42) 209 dL_law_42 (by decide) (by decide) rfl (by decide) ?_
      refine j_al1n (pc := 209) dL_law_209 ?_
      refine j_al0n (pc := 210) dL_law_210 ?_
      refine j_il3n (pc := 211) dL_law_211 ?_
      refine j_iconst (pc := 212) (nI 1) dL_law_212 (by decide) ?_
      refine j_iaddN (pc := 213) dL_law_213 ?_
      refine jL_sld (pc := 214) hs dL_law_214 (by omega) (by omega) ?_
      refine j_al0n (pc := 215) dL_law_215 ?_
      refine j_il3n (pc := 216) dL_law_216 ?_
      refine j_iconst (pc := 217) (nI 2) dL_law_217 (by decide) ?_
      refine j_iaddN (pc := 218) dL_law_218 ?_
      refine jL_sld (pc := 219) hs dL_law_219 (by omega) (by omega) ?_
      refine cL1_compatible (pc := 220) dL_law_220 (m1_compatible iv1 (xs (i + 1)) (xs (i + 2))) (fun r1 u1 e1 => ?_)
      refine j_al2n (pc := 223) dL_law_223 ?_
      refine j_al0n (pc := 224) dL_law_224 ?_
      refine j_il3n (pc := 225) dL_law_225 ?_
      refine j_iconst (pc := 226) (nI 1) dL_law_226 (by decide) ?_
      refine j_iaddN (pc := 227) dL_law_227 ?_
      refine jL_sld (pc := 228) hs dL_law_228 (by omega) (by omega) ?_
      refine j_al0n (pc := 229) dL_law_229 ?_
      refine j_il3n (pc := 230) dL_law_230 ?_
      refine j_iconst (pc := 231) (nI 2) dL_law_231 (by decide) ?_
      refine j_iaddN (pc := 232) dL_law_232 ?_
      refine jL_sld (pc := 233) hs dL_law_233 (by omega) (by omega) ?_
      refine cL2_compatible (pc := 234) dL_law_234 (m2_compatible iv2 (xs (i + 1)) (xs (i + 2))) (fun r2 u2 e2 => ?_)
      refine j_icmp_eq (pc := 237) 526 dL_law_237 (by decide) (fun _ => nxt _ _ _ _ _ e1.2 e2.2) (fun ne => absurd ?_ ne)
      rw [e1.1, e2.1]
    · refine jL_tab (pc := 42) 242 dL_law_42 (by decide) (by decide) rfl (by decide) ?_
      refine j_al1n (pc := 242) dL_law_242 ?_
      refine j_al0n (pc := 243) dL_law_243 ?_
      refine j_il3n (pc := 244) dL_law_244 ?_
      refine j_iconst (pc := 245) (nI 1) dL_law_245 (by decide) ?_
      refine j_iaddN (pc := 246) dL_law_246 ?_
      refine jL_sld (pc := 247) hs dL_law_247 (by omega) (by omega) ?_
      refine j_al0n (pc := 248) dL_law_248 ?_
      refine j_il3n (pc := 249) dL_law_249 ?_
      refine j_iconst (pc := 250) (nI 2) dL_law_250 (by decide) ?_
      refine j_iaddN (pc := 251) dL_law_251 ?_
      refine jL_sld (pc := 252) hs dL_law_252 (by omega) (by omega) ?_
      refine cL1_splitLength (pc := 253) dL_law_253 (m1_splitLength iv1 (xs (i + 1)) (xs (i + 2))) (fun r1 u1 e1 => ?_)
      refine j_al2n (pc := 256) dL_law_256 ?_
      refine j_al0n (pc := 257) dL_law_257 ?_
      refine j_il3n (pc := 258) dL_law_258 ?_
      refine j_iconst (pc := 259) (nI 1) dL_law_259 (by decide) ?_
      refine j_iaddN (pc := 260) dL_law_260 ?_
      refine jL_sld (pc := 261) hs dL_law_261 (by omega) (by omega) ?_
      refine j_al0n (pc := 262) dL_law_262 ?_
      refine j_il3n (pc := 263) dL_law_263 ?_
      refine j_iconst (pc := 264) (nI 2) dL_law_264 (by decide) ?_
      refine j_iaddN (pc := 265) dL_law_265 ?_
      refine jL_sld (pc := 266) hs dL_law_266 (by omega) (by omega) ?_
      refine cL2_splitLength (pc := 267) dL_law_267 (m2_splitLength iv2 (xs (i + 1)) (xs (i + 2))) (fun r2 u2 e2 => ?_)
      refine j_icmp_eq (pc := 270) 526 dL_law_270 (by decide) (fun _ => nxt _ _ _ _ _ e1.2 e2.2) (fun ne => absurd ?_ ne)
      rw [e1.1, e2.1]
    · refine jL_tab (pc := 42) 275 dL_law_42 (by decide) (by decide) rfl (by decide) ?_
      refine j_al1n (pc := 275) dL_law_275 ?_
      refine j_al0n (pc := 276) dL_law_276 ?_
      refine j_il3n (pc := 277) dL_law_277 ?_
      refine j_iconst (pc := 278) (nI 1) dL_law_278 (by decide) ?_
      refine j_iaddN (pc := 279) dL_law_279 ?_
      refine jL_sld (pc := 280) hs dL_law_280 (by omega) (by omega) ?_
      refine j_al0n (pc := 281) dL_law_281 ?_
      refine j_il3n (pc := 282) dL_law_282 ?_
      refine j_iconst (pc := 283) (nI 2) dL_law_283 (by decide) ?_
      refine j_iaddN (pc := 284) dL_law_284 ?_
      refine jL_sld (pc := 285) hs dL_law_285 (by omega) (by omega) ?_
      refine cL1_splitWord (pc := 286) dL_law_286 (m1_splitWord iv1 (xs (i + 1)) (xs (i + 2))) (fun r1 u1 e1 => ?_)
      refine j_al2n (pc := 289) dL_law_289 ?_
      refine j_al0n (pc := 290) dL_law_290 ?_
      refine j_il3n (pc := 291) dL_law_291 ?_
      refine j_iconst (pc := 292) (nI 1) dL_law_292 (by decide) ?_
      refine j_iaddN (pc := 293) dL_law_293 ?_
      refine jL_sld (pc := 294) hs dL_law_294 (by omega) (by omega) ?_
      refine j_al0n (pc := 295) dL_law_295 ?_
      refine j_il3n (pc := 296) dL_law_296 ?_
      refine j_iconst (pc := 297) (nI 2) dL_law_297 (by decide) ?_
      refine j_iaddN (pc := 298) dL_law_298 ?_
      refine jL_sld (pc := 299) hs dL_law_299 (by omega) (by omega) ?_
      refine cL2_splitWord (pc := 300) dL_law_300 (m2_splitWord iv2 (xs (i + 1)) (xs (i + 2))) (fun r2 u2 e2 => ?_)
      refine j_icmp_eq (pc := 303) 526 dL_law_303 (by decide) (fun _ => nxt _ _ _ _ _ e1.2 e2.2) (fun ne => absurd ?_ ne)
      rw [e1.1, e2.1]
    · refine jL_tab (pc := 42) 308 dL_law_42 (by decide) (by decide) rfl (by decide) ?_
      refine j_al1n (pc := 308) dL_law_308 ?_
      refine j_al0n (pc := 309) dL_law_309 ?_
      refine j_il3n (pc := 310) dL_law_310 ?_
      refine j_iconst (pc := 311) (nI 1) dL_law_311 (by decide) ?_
      refine j_iaddN (pc := 312) dL_law_312 ?_
      refine jL_sld (pc := 313) hs dL_law_313 (by omega) (by omega) ?_
      refine cL1_compatibleSet (pc := 314) dL_law_314 (m1_compatibleSet iv1 (xs (i + 1))) (fun r1 u1 e1 => ?_)
      refine j_al2n (pc := 317) dL_law_317 ?_
      refine j_al0n (pc := 318) dL_law_318 ?_
      refine j_il3n (pc := 319) dL_law_319 ?_
      refine j_iconst (pc := 320) (nI 1) dL_law_320 (by decide) ?_
      refine j_iaddN (pc := 321) dL_law_321 ?_
      refine jL_sld (pc := 322) hs dL_law_322 (by omega) (by omega) ?_
      refine cL2_compatibleSet (pc := 323) dL_law_323 (m2_compatibleSet iv2 (xs (i + 1))) (fun r2 u2 e2 => ?_)
      refine j_icmp_eq (pc := 326) 526 dL_law_326 (by decide) (fun _ => nxt _ _ _ _ _ e1.2 e2.2) (fun ne => absurd ?_ ne)
      rw [e1.1, e2.1]
    · refine jL_tab (pc := 42) 331 dL_law_42 (by decide) (by decide) rfl (by decide) ?_
      refine j_al1n (pc := 331) dL_law_331 ?_
      refine cL1_maximals (pc := 332) dL_law_332 (m1_maximals iv1) (fun r1 u1 e1 => ?_)
      refine j_al2n (pc := 335) dL_law_335 ?_
      refine cL2_maximals (pc := 336) dL_law_336 (m2_maximals iv2) (fun r2 u2 e2 => ?_)
      refine j_icmp_eq (pc := 339) 526 dL_law_339 (by decide) (fun _ => nxt _ _ _ _ _ e1.2 e2.2) (fun ne => absurd ?_ ne)
      rw [e1.1, e2.1]
    · refine jL_tab (pc := 42) 344 dL_law_42 (by decide) (by decide) rfl (by decide) ?_
      refine j_al1n (pc := 344) dL_law_344 ?_
      refine j_al0n (pc := 345) dL_law_345 ?_
      refine j_il3n (pc := 346) dL_law_346 ?_
      refine j_iconst (pc := 347) (nI 1) dL_law_347 (by decide) ?_
      refine j_iaddN (pc := 348) dL_law_348 ?_
      refine jL_sld (pc := 349) hs dL_law_349 (by omega) (by omega) ?_
      refine cL1_maximal (pc := 350) dL_law_350 (m1_maximal iv1 (xs (i + 1))) (fun r1 u1 e1 => ?_)
      refine j_al2n (pc := 353) dL_law_353 ?_
      refine j_al0n (pc := 354) dL_law_354 ?_
      refine j_il3n (pc := 355) dL_law_355 ?_
      refine j_iconst (pc := 356) (nI 1) dL_law_356 (by decide) ?_
      refine j_iaddN (pc := 357) dL_law_357 ?_
      refine jL_sld (pc := 358) hs dL_law_358 (by omega) (by omega) ?_
      refine cL2_maximal (pc := 359) dL_law_359 (m2_maximal iv2 (xs (i + 1))) (fun r2 u2 e2 => ?_)
      refine j_icmp_eq (pc := 362) 526 dL_law_362 (by decide) (fun _ => nxt _ _ _ _ _ e1.2 e2.2) (fun ne => absurd ?_ ne)
      rw [e1.1, e2.1]
    · refine jL_tab (pc := 42) 367 dL_law_42 (by decide) (by decide) rfl (by decide) ?_
      refine j_al1n (pc := 367) dL_law_367 ?_
      refine j_al0n (pc := 368) dL_law_368 ?_
      refine j_il3n (pc := 369) dL_law_369 ?_
      refine j_iconst (pc := 370) (nI 1) dL_law_370 (by decide) ?_
      refine j_iaddN (pc := 371) dL_law_371 ?_
      refine jL_sld (pc := 372) hs dL_law_372 (by omega) (by omega) ?_
      refine j_al0n (pc := 373) dL_law_373 ?_
      refine j_il3n (pc := 374) dL_law_374 ?_
      refine j_iconst (pc := 375) (nI 2) dL_law_375 (by decide) ?_
      refine j_iaddN (pc := 376) dL_law_376 ?_
      refine jL_sld (pc := 377) hs dL_law_377 (by omega) (by omega) ?_
      refine cL1_implied (pc := 378) dL_law_378 (m1_implied iv1 (xs (i + 1)) (xs (i + 2))) (fun r1 u1 e1 => ?_)
      refine j_al2n (pc := 381) dL_law_381 ?_
      refine j_al0n (pc := 382) dL_law_382 ?_
      refine j_il3n (pc := 383) dL_law_383 ?_
      refine j_iconst (pc := 384) (nI 1) dL_law_384 (by decide) ?_
      refine j_iaddN (pc := 385) dL_law_385 ?_
      refine jL_sld (pc := 386) hs dL_law_386 (by omega) (by omega) ?_
      refine j_al0n (pc := 387) dL_law_387 ?_
      refine j_il3n (pc := 388) dL_law_388 ?_
      refine j_iconst (pc := 389) (nI 2) dL_law_389 (by decide) ?_
      refine j_iaddN (pc := 390) dL_law_390 ?_
      refine jL_sld (pc := 391) hs dL_law_391 (by omega) (by omega) ?_
      refine cL2_implied (pc := 392) dL_law_392 (m2_implied iv2 (xs (i + 1)) (xs (i + 2))) (fun r2 u2 e2 => ?_)
      refine j_icmp_eq (pc := 395) 526 dL_law_395 (by decide) (fun _ => nxt _ _ _ _ _ e1.2 e2.2) (fun ne => absurd ?_ ne)
      rw [e1.1, e2.1]
    · refine jL_tab (pc := 42) 400 dL_law_42 (by decide) (by decide) rfl (by decide) ?_
      refine j_al1n (pc := 400) dL_law_400 ?_
      refine cL1_coverSize (pc := 401) dL_law_401 (m1_coverSize iv1) (fun r1 u1 e1 => ?_)
      refine j_al2n (pc := 404) dL_law_404 ?_
      refine cL2_coverSize (pc := 405) dL_law_405 (m2_coverSize iv2) (fun r2 u2 e2 => ?_)
      refine j_icmp_eq (pc := 408) 526 dL_law_408 (by decide) (fun _ => nxt _ _ _ _ _ e1.2 e2.2) (fun ne => absurd ?_ ne)
      obtain ⟨⟨k1, cv1, B1, rfl⟩, -⟩ := e1
      obtain ⟨⟨k2, cv2, B2, rfl⟩, -⟩ := e2
      obtain ⟨rfl, hcv⟩ := B1.uniq B2
      rfl
    · refine jL_tab (pc := 42) 413 dL_law_42 (by decide) (by decide) rfl (by decide) ?_
      refine j_al1n (pc := 413) dL_law_413 ?_
      refine j_al0n (pc := 414) dL_law_414 ?_
      refine j_il3n (pc := 415) dL_law_415 ?_
      refine j_iconst (pc := 416) (nI 1) dL_law_416 (by decide) ?_
      refine j_iaddN (pc := 417) dL_law_417 ?_
      refine jL_sld (pc := 418) hs dL_law_418 (by omega) (by omega) ?_
      refine cL1_coverSet (pc := 419) dL_law_419 (m1_coverSet iv1 (xs (i + 1))) (fun r1 u1 e1 => ?_)
      refine j_al2n (pc := 422) dL_law_422 ?_
      refine j_al0n (pc := 423) dL_law_423 ?_
      refine j_il3n (pc := 424) dL_law_424 ?_
      refine j_iconst (pc := 425) (nI 1) dL_law_425 (by decide) ?_
      refine j_iaddN (pc := 426) dL_law_426 ?_
      refine jL_sld (pc := 427) hs dL_law_427 (by omega) (by omega) ?_
      refine cL2_coverSet (pc := 428) dL_law_428 (m2_coverSet iv2 (xs (i + 1))) (fun r2 u2 e2 => ?_)
      refine j_icmp_eq (pc := 431) 526 dL_law_431 (by decide) (fun _ => nxt _ _ _ _ _ e1.2 e2.2) (fun ne => absurd ?_ ne)
      obtain ⟨⟨k1, cv1, B1, rfl⟩, -⟩ := e1
      obtain ⟨⟨k2, cv2, B2, rfl⟩, -⟩ := e2
      obtain ⟨rfl, hcv⟩ := B1.uniq B2
      cases hb : inR 0 k1 (xs (i + 1)) with
      | false => rw [if_pos rfl, if_pos rfl]
      | true =>
        have hk := B1.le
        have h5 := iv1.1.2.1
        obtain ⟨j, -, hj, e⟩ := inR_nI hb (by omega)
        rw [if_neg (by decide), if_neg (by decide), e, cl_nI (by omega), hcv j hj]
    · refine jL_tab (pc := 42) 436 dL_law_42 (by decide) (by decide) rfl (by decide) ?_
      refine j_al1n (pc := 436) dL_law_436 ?_
      refine j_al0n (pc := 437) dL_law_437 ?_
      refine j_il3n (pc := 438) dL_law_438 ?_
      refine j_iconst (pc := 439) (nI 1) dL_law_439 (by decide) ?_
      refine j_iaddN (pc := 440) dL_law_440 ?_
      refine jL_sld (pc := 441) hs dL_law_441 (by omega) (by omega) ?_
      refine j_al0n (pc := 442) dL_law_442 ?_
      refine j_il3n (pc := 443) dL_law_443 ?_
      refine j_iconst (pc := 444) (nI 2) dL_law_444 (by decide) ?_
      refine j_iaddN (pc := 445) dL_law_445 ?_
      refine jL_sld (pc := 446) hs dL_law_446 (by omega) (by omega) ?_
      refine j_al0n (pc := 447) dL_law_447 ?_
      refine j_il3n (pc := 448) dL_law_448 ?_
      refine j_iconst (pc := 449) (nI 3) dL_law_449 (by decide) ?_
      refine j_iaddN (pc := 450) dL_law_450 ?_
      refine jL_sld (pc := 451) hs dL_law_451 (by omega) (by omega) ?_
      refine cL1_isCover (pc := 452) dL_law_452 (m1_isCover iv1 (xs (i + 1)) (xs (i + 2)) (xs (i + 3))) (fun r1 u1 e1 => ?_)
      refine j_al2n (pc := 455) dL_law_455 ?_
      refine j_al0n (pc := 456) dL_law_456 ?_
      refine j_il3n (pc := 457) dL_law_457 ?_
      refine j_iconst (pc := 458) (nI 1) dL_law_458 (by decide) ?_
      refine j_iaddN (pc := 459) dL_law_459 ?_
      refine jL_sld (pc := 460) hs dL_law_460 (by omega) (by omega) ?_
      refine j_al0n (pc := 461) dL_law_461 ?_
      refine j_il3n (pc := 462) dL_law_462 ?_
      refine j_iconst (pc := 463) (nI 2) dL_law_463 (by decide) ?_
      refine j_iaddN (pc := 464) dL_law_464 ?_
      refine jL_sld (pc := 465) hs dL_law_465 (by omega) (by omega) ?_
      refine j_al0n (pc := 466) dL_law_466 ?_
      refine j_il3n (pc := 467) dL_law_467 ?_
      refine j_iconst (pc := 468) (nI 3) dL_law_468 (by decide) ?_
      refine j_iaddN (pc := 469) dL_law_469 ?_
      refine jL_sld (pc := 470) hs dL_law_470 (by omega) (by omega) ?_
      refine cL2_isCover (pc := 471) dL_law_471 (m2_isCover iv2 (xs (i + 1)) (xs (i + 2)) (xs (i + 3))) (fun r2 u2 e2 => ?_)
      refine j_icmp_eq (pc := 474) 526 dL_law_474 (by decide) (fun _ => nxt _ _ _ _ _ e1.2 e2.2) (fun ne => absurd ?_ ne)
      rw [e1.1, e2.1]
    · refine jL_tab (pc := 42) 479 dL_law_42 (by decide) (by decide) rfl (by decide) ?_
      refine j_al1n (pc := 479) dL_law_479 ?_
      refine cL1_restart (pc := 480) dL_law_480 (m1_restart iv1) (fun u1 e1 => ?_)
      refine j_al2n (pc := 483) dL_law_483 ?_
      refine cL2_restart (pc := 484) dL_law_484 (m2_restart iv2) (fun u2 e2 => ?_)
      refine j_goto (pc := 487) 526 dL_law_487 (by decide) ?_
      exact nxt _ _ _ _ _ e1 e2
    · refine jL_tab (pc := 42) 490 dL_law_42 (by decide) (by decide) rfl (by decide) ?_
      refine j_al1n (pc := 490) dL_law_490 ?_
      refine j_al0n (pc := 491) dL_law_491 ?_
      refine j_il3n (pc := 492) dL_law_492 ?_
      refine j_iconst (pc := 493) (nI 1) dL_law_493 (by decide) ?_
      refine j_iaddN (pc := 494) dL_law_494 ?_
      refine jL_sld (pc := 495) hs dL_law_495 (by omega) (by omega) ?_
      refine cL1_read (pc := 496) dL_law_496 (m1_read iv1 (xs (i + 1))) (fun r1 u1 e1 => ?_)
      refine j_al2n (pc := 499) dL_law_499 ?_
      refine j_al0n (pc := 500) dL_law_500 ?_
      refine j_il3n (pc := 501) dL_law_501 ?_
      refine j_iconst (pc := 502) (nI 1) dL_law_502 (by decide) ?_
      refine j_iaddN (pc := 503) dL_law_503 ?_
      refine jL_sld (pc := 504) hs dL_law_504 (by omega) (by omega) ?_
      refine cL2_read (pc := 505) dL_law_505 (m2_read iv2 (xs (i + 1))) (fun r2 u2 e2 => ?_)
      refine j_icmp_eq (pc := 508) 526 dL_law_508 (by decide) (fun _ => nxt _ _ _ _ _ e1.2 e2.2) (fun ne => absurd ?_ ne)
      rw [e1.1, e2.1]
    · refine jL_tab (pc := 42) 513 dL_law_42 (by decide) (by decide) rfl (by decide) ?_
      refine j_al1n (pc := 513) dL_law_513 ?_
      refine cL1_lost (pc := 514) dL_law_514 (m1_lost iv1) (fun r1 u1 e1 => ?_)
      refine j_al2n (pc := 517) dL_law_517 ?_
      refine cL2_lost (pc := 518) dL_law_518 (m2_lost iv2) (fun r2 u2 e2 => ?_)
      refine j_icmp_eq (pc := 521) 526 dL_law_521 (by decide) (fun _ => nxt _ _ _ _ _ e1.2 e2.2) (fun ne => absurd ?_ ne)
      rw [e1.1, e2.1]
set_option maxHeartbeats 4000000 in
theorem m0_cell (l : Launch) (b L : Nat) (xs : Nat → Int32) (sz : Nat) (hL : L ≤ 257) : Met l yX0_cell (ws_ yX0_cell cX0_cell 2 (some .int)) (rmK 0) (va_Pc [.ref b, .int 0] (fun U => U.heap.size = sz ∧ va_X b L xs U U.heap ∧ b < sz)) (va_Qi (fun (r : Int32) (_ : Unit) => r = if 0 < L then xs 0 else 0) (fun _ _ => True) (va_A [] sz)) 0 0 (va_A [] sz) := by
  refine Met.ofW (cc := cX0_cell) (maxL := 2) (ret := some .int) (by decide) rfl ?_
  intro p e s m args below meth c s₁ B hml hv
  obtain ⟨rfl, hsz, hX, hbl⟩ := hv
  have hx := B.exec
  have hb := B.bytes
  have hr := B.returns
  subst hsz
  have hbA : ¬ va_A [] s.heap.size b := by
    rintro (⟨k, e, h⟩ | h)
    · simp at h
    · omega
  generalize va_A [] s.heap.size = A at hbA ⊢
  have hS : va_S A s.heap s.heap [] := va_S.rf
  have hl := lv_entry ([.ref b, .int 0]) (n := 2) (Nat.le_of_ble_eq_true rfl)
  rw [lg_entry_eq]
  generalize (lg_sl ([.ref b, .int 0]) ++ List.replicate (2 - (lg_sl ([.ref b, .int 0])).length) Slot.unset).toArray = ls at hl ⊢
  have hl : lv_has ls 2 [(0, .ref b), (1, .int 0)] := hl
  refine lv_iload_n hx hb dX0_cell_0 rfl (lv_at hl 1 rfl) ?_
  refine lv_aload_n hx hb dX0_cell_1 rfl (lv_at hl 0 rfl) ?_
  refine va_slen hx hb hX hbl hbA hS dX0_cell_2 ?_
  refine lv_icmp_ge (tgt := 12) hx hb dX0_cell_3 (by decide) (fun c1 => ?_) (fun c1 => ?_)
  · have h0 : ¬ 0 < L := fun q => nI_nle q (by omega) c1
    refine lv_iconst (v := 0) hx hb dX0_cell_12 (by decide) ?_
    exact W.iret hx hb hr (fun t ht hW => ⟨⟨0, (), rfl, by rw [if_neg h0], trivial⟩, hS.F ht⟩) hS.2.2 dX0_cell_13
  · have h0 : 0 < L := by
      rcases Nat.eq_zero_or_pos L with q | q
      · subst q
        exact absurd (by decide) c1
      · exact q
    refine lv_aload_n hx hb dX0_cell_6 rfl (lv_at hl 0 rfl) ?_
    refine lv_iload_n hx hb dX0_cell_7 rfl (lv_at hl 1 rfl) ?_
    refine va_sld hx hb hX hbl hbA hS (i := 0) (vp_in_nI (n := 0) h0 (by omega)) dX0_cell_8 ?_
    refine lv_goto (tgt := 13) hx hb dX0_cell_9 (by decide) ?_
    exact W.iret hx hb hr (fun t ht hW => ⟨⟨_, (), rfl, by rw [if_pos h0]; rfl, trivial⟩, hS.F ht⟩) hS.2.2 dX0_cell_13
end
section
/-! the law's entry, and the claim out of it -/
set_option maxRecDepth 100000
set_option maxHeartbeats 4000000 in
theorem whole_start {p : Program} {e : Env} {s : State} {m : MethodId} {below : List Frame} {meth : Method} {c : Code} (l : Launch) {b L : Nat} {xs : Nat → Int32} (hL : L ≤ 257) (C0 : lw_At p s m meth c b L xs) : W p l e room_1 s m #[Value.ref b] below meth c s.heap [] 0 0 (lw_Z below #[Value.ref b] s) (entryFrame m ([Value.ref b] : List Value).toArray 4) := by
  obtain ⟨hx, hb, hr, hml, hown, hts0, hX, hbl, hlocks, -⟩ := C0
  have hts : ∀ w ∈ lw_all, w.before #[Value.ref b] s = true := fun w h => hts0 w (lw_all_tbl h)
  obtain ⟨c0_, iS0, hKn0⟩ := u_known (C := RX1) (T := TX1) (N := 17) (n := 17) hts0 (fun w h => lw_all_tbl (in_X1 w h)) (hts0 _ (lw_all_tbl q40))
  obtain ⟨c1_, iS1, hKn1⟩ := u_known (C := RX2) (T := TX2) (N := 6) (n := 6) hts0 (fun w h => lw_all_tbl (in_X2 w h)) (hts0 _ (lw_all_tbl q239))
  obtain ⟨D, hDK⟩ : ∃ D : va_G, va_K D vwCl [] s := by
    refine ⟨(fun k => if k = 0 then c0_ else c1_, fun k => if k = 0 then iS0 else iS1), ?_, fun k q h => by simp at h⟩
    intro k q hq
    match k, hq with
    | 0, hq => cases hq; exact hKn0
    | 1, hq => cases hq; exact hKn1
    | k + 2, hq => simp [vwCl] at hq
  generalize hAe : (fun q : Nat => s.heap.size ≤ q) = A
  have hA : ∀ q : Nat, s.heap.size ≤ q → A q := fun q h => by rw [← hAe]; exact h
  have hAi : ∀ q : Nat, A q → s.heap.size ≤ q := fun q h => by rw [← hAe] at h; exact h
  have hbA : ¬ A b := fun q => by have := hAi b q; omega
  have hK := hDK
  have hP : va_P D vwCl [] s.heap := fun k q h => by simp at h
  have hD : va_D A [] := ⟨fun i j p q h => by simp at h, fun k q h => by simp at h⟩
  have hS : va_S A s.heap s.heap [] := va_S.rf
  have hl := lv_entry ([.ref b]) (n := 4) (Nat.le_of_ble_eq_true rfl)
  rw [lg_entry_eq]
  generalize (lg_sl ([.ref b]) ++ List.replicate (4 - (lg_sl ([.ref b])).length) Slot.unset).toArray = ls at hl ⊢
  have hl : lv_has ls 4 [(0, .ref b)] := hl
  -- FsmReducer x = new FsmReducer(cell(script, 0))
  refine va_new (ci := 0) (fs := blank1) (C := RX1) (T := TX1) (N := 17) hx hb hts in_X1 tyX1 tyX1_ok hown (hts _ q39) (hts _ q40) (hts _ q37) hK hP hD hS hA rfl blank1_ok (Nat.le_of_ble_eq_true rfl) (Nat.le_of_ble_eq_true rfl) dL_law_0 (fun o1 H hP hD hS => ?_)
  have hP : va_P D vwCl [(o1, .inr (0, blank1))] H := hP
  have hD : va_D A [(o1, .inr (0, blank1))] := hD
  refine lv_dup hx hb dL_law_3 rfl ?_
  refine lv_aload_n hx hb dL_law_4 rfl (lv_at hl 0 rfl) ?_
  refine lv_iconst (v := 0) hx hb dL_law_5 (by decide) ?_
  have hFc := va_free (wc := []) hD hS hA [] rfl
  refine va_calli (va_runS (As := [.ref b, .int 0]) (rest := [.ref o1, .ref o1]) ⟨hx, hb, hml, hown, hts⟩ (m0_cell l b L xs H.size hL) (va_cwS 2 hts (lw_S q235 q236 q36 q237) rfl rfl rfl (by decide +kernel) ⟨Nat.le_of_ble_eq_true rfl, Nat.le_of_ble_eq_true rfl⟩) ⟨fun a U g mk q => by obtain ⟨q0, q1, q2, q3⟩ := q; exact ⟨q0, q1, q2.moved (u := U) (U := U.calling g mk a) (Vm.Alike.refl U.vm), q3⟩, fun U hU hW => ⟨rfl, by rw [hU], by rw [hU]; exact (hX.kept (hS.2.1 b hbl hbA)).moved hW.alike, Nat.lt_of_lt_of_le hbl hS.1⟩⟩ rfl rfl hl.1 rfl (lv_room (Nat.le_of_ble_eq_true rfl)) dL_law_6 ⟨Nat.le_of_ble_eq_true rfl, Nat.le_of_ble_eq_true rfl⟩) hS (fun q _ h => hFc q h) hFc (fun v1 u t H1 locs ht hvm hv1 hB hz1 hk1 hS => ?_)
  obtain ⟨hP, hD⟩ := va_join (wr := [(o1, .inr (0, blank1))]) (w1 := []) hP hD [] [0] rfl rfl (by decide) (by decide) hk1 hFc (fun k q h => by simp at h) ⟨fun i j p q h => by simp at h, fun k q h => by simp at h⟩
  generalize H1 = H at hP hS ⊢
  have hP : va_P D vwCl [(o1, .inr (0, blank1))] H := hP
  have hD : va_D A [(o1, .inr (0, blank1))] := hD
  have hFc := va_free (wc := [(o1, .inr (0, blank1))]) hD hS hA [0] rfl
  refine va_callv (va_runI (As := [.int v1]) (rest := [.ref o1]) ⟨hx, hb, hml, hown, hts⟩ (m1_init l D o1 H.size v1) (cwI 1 hts (lw_meth q43) rfl rfl rfl (hts _ q37) (hts _ q41) (hts _ q42) rfl (by decide +kernel) ⟨Nat.le_of_ble_eq_true rfl, Nat.le_of_ble_eq_true rfl⟩) ⟨fun a U g mk q => by obtain ⟨q0, q1, qP, qK, qD⟩ := q; exact ⟨q0, q1, qP, va_K.moved (u := U) (U := U.calling g mk a) (Vm.Alike.refl U.vm) qK, qD⟩, fun U hU hW => ⟨rfl, by rw [hU], by rw [hU]; exact hP, va_K.moved hW.alike hK, hD.weaken (fun _ _ _ _ => trivial)⟩⟩ rfl rfl hl.1 rfl (lv_room (Nat.le_of_ble_eq_true rfl)) dL_law_9 ⟨Nat.le_of_ble_eq_true rfl, Nat.le_of_ble_eq_true rfl⟩) hS (fun q _ h => hFc q h) hFc (fun u t H1 locs ht hvm hw1 hB hz1 hk1 hS => ?_)
  obtain ⟨h1, d1, w1⟩ := u
  obtain ⟨e1, iv1, hP1, hK1, hD1⟩ := hB
  have e1 : h1 0 = o1 := e1
  subst e1
  rw [ht] at hP1
  have hK1 : va_K D vwCl (tys1 d1) s := va_K.moved hvm.symm hK1
  have hP : va_P D vwCl (pic1 h1 d1 w1) H1 := hP1
  have hD : va_D A (pic1 h1 d1 w1) := hD1.weaken (fun _ _ _ h => hFc _ h)
  generalize H1 = H at hP hS ⊢
  refine lv_astore_n (lv' := [(1, .ref (h1 0)), (0, .ref b)]) hx hb dL_law_12 rfl hl (by decide) rfl (fun ls hl => ?_)
  -- FsmReducerModel m = new FsmReducerModel(cell(script, 0))
  refine va_new (ci := 1) (fs := blank2) (C := RX2) (T := TX2) (N := 6) hx hb hts in_X2 tyX2 tyX2_ok hown (hts _ q238) (hts _ q239) (hts _ q38) hK1 hP hD hS hA rfl blank2_ok (Nat.le_of_ble_eq_true rfl) (Nat.le_of_ble_eq_true rfl) dL_law_13 (fun o2 H hP hD hS => ?_)
  have hP : va_P D vwCl (pic1 h1 d1 w1 ++ [(o2, .inr (1, blank2))]) H := hP
  have hD : va_D A (pic1 h1 d1 w1 ++ [(o2, .inr (1, blank2))]) := hD
  refine lv_dup hx hb dL_law_16 rfl ?_
  refine lv_aload_n hx hb dL_law_17 rfl (lv_at hl 1 rfl) ?_
  refine lv_iconst (v := 0) hx hb dL_law_18 (by decide) ?_
  have hFc := va_free (wc := []) hD hS hA [] rfl
  refine va_calli (va_runS (As := [.ref b, .int 0]) (rest := [.ref o2, .ref o2]) ⟨hx, hb, hml, hown, hts⟩ (m0_cell l b L xs H.size hL) (va_cwS 2 hts (lw_S q235 q236 q36 q237) rfl rfl rfl (by decide +kernel) ⟨Nat.le_of_ble_eq_true rfl, Nat.le_of_ble_eq_true rfl⟩) ⟨fun a U g mk q => by obtain ⟨q0, q1, q2, q3⟩ := q; exact ⟨q0, q1, q2.moved (u := U) (U := U.calling g mk a) (Vm.Alike.refl U.vm), q3⟩, fun U hU hW => ⟨rfl, by rw [hU], by rw [hU]; exact (hX.kept (hS.2.1 b hbl hbA)).moved hW.alike, Nat.lt_of_lt_of_le hbl hS.1⟩⟩ rfl rfl hl.1 rfl (lv_room (Nat.le_of_ble_eq_true rfl)) dL_law_19 ⟨Nat.le_of_ble_eq_true rfl, Nat.le_of_ble_eq_true rfl⟩) hS (fun q _ h => hFc q h) hFc (fun v2 u t H1 locs ht hvm hv2 hB hz1 hk1 hS => ?_)
  obtain rfl : v1 = v2 := by rw [hv1, hv2]
  obtain ⟨hP, hD⟩ := va_join (wr := pic1 h1 d1 w1 ++ [(o2, .inr (1, blank2))]) (w1 := []) hP hD [] [0, 1, 2, 3, 4, 5, 6, 7, 8, 9, 10, 11] rfl rfl (by decide) (by decide) hk1 hFc (fun k q h => by simp at h) ⟨fun i j p q h => by simp at h, fun k q h => by simp at h⟩
  generalize H1 = H at hP hS ⊢
  have hP : va_P D vwCl (pic1 h1 d1 w1 ++ [(o2, .inr (1, blank2))]) H := hP
  have hD : va_D A (pic1 h1 d1 w1 ++ [(o2, .inr (1, blank2))]) := hD
  have hPc := hP.sub (ws' := [(o2, .inr (1, blank2))]) [11] rfl
  have hDc := hD.sub (ws' := [(o2, .inr (1, blank2))]) [11] (by decide) rfl
  have hFc := va_free (wc := [(o2, .inr (1, blank2))]) hD hS hA [11] rfl
  refine va_callv (va_runI (As := [.int v1]) (rest := [.ref o2]) ⟨hx, hb, hml, hown, hts⟩ (m2_init l D o2 H.size v1) (cwI 1 hts (lw_meth q242) rfl rfl rfl (hts _ q38) (hts _ q240) (hts _ q241) rfl (by decide +kernel) ⟨Nat.le_of_ble_eq_true rfl, Nat.le_of_ble_eq_true rfl⟩) ⟨fun a U g mk q => by obtain ⟨q0, q1, qP, qK, qD⟩ := q; exact ⟨q0, q1, qP, va_K.moved (u := U) (U := U.calling g mk a) (Vm.Alike.refl U.vm) qK, qD⟩, fun U hU hW => ⟨rfl, by rw [hU], by rw [hU]; exact hPc, va_K.moved hW.alike hK, hDc.weaken (fun _ _ _ _ => trivial)⟩⟩ rfl rfl hl.1 rfl (lv_room (Nat.le_of_ble_eq_true rfl)) dL_law_22 ⟨Nat.le_of_ble_eq_true rfl, Nat.le_of_ble_eq_true rfl⟩) hS (fun q _ h => hFc q h) hFc (fun u t H1 locs ht hvm hw1 hB hz1 hk1 hS => ?_)
  obtain ⟨h2, d2, w2⟩ := u
  obtain ⟨e2, iv2, hP2, hK2, hD2⟩ := hB
  have e2 : h2 0 = o2 := e2
  subst e2
  rw [ht] at hP2
  have hK2 : va_K D vwCl (tys2 d2) s := va_K.moved hvm.symm hK2
  obtain ⟨hP, hD⟩ := va_join (wr := pic1 h1 d1 w1) (w1 := pic2 h2 d2 w2) hP hD [11] [0, 1, 2, 3, 4, 5, 6, 7, 8, 9, 10] rfl rfl (by decide) (by decide) hk1 hFc hP2 hD2
  generalize H1 = H at hP hS ⊢
  refine lv_astore_n (lv' := [(2, .ref (h2 0)), (1, .ref (h1 0)), (0, .ref b)]) hx hb dL_law_25 rfl hl (by decide) rfl (fun ls hl => ?_)
  refine lv_iconst (v := nI 1) hx hb dL_law_26 (by decide) ?_
  refine lv_istore_n (lv' := [(3, .int (nI 1)), (2, .ref (h2 0)), (1, .ref (h1 0)), (0, .ref b)]) hx hb dL_law_27 rfl hl (by decide) rfl (fun ls hl => ?_)
  refine W.widen (k := 600000) (n := 7290000) (Nat.le_of_ble_eq_true rfl) (Nat.le_of_ble_eq_true rfl) ?_
  have hLH : LH ls 4 [.ref b, .ref (h1 0), .ref (h2 0), .int (nI 1)] := by
    refine ⟨hl.1, hl.2.1, fun k v hv => ?_⟩
    match k, hv with
    | 0, hv => cases hv; exact ⟨lv_at hl 3 rfl, rfl⟩
    | 1, hv => cases hv; exact ⟨lv_at hl 2 rfl, rfl⟩
    | 2, hv => cases hv; exact ⟨lv_at hl 1 rfl, rfl⟩
    | 3, hv => cases hv; exact ⟨lv_at hl 0 rfl, rfl⟩
    | k + 4, hv => simp at hv
  exact law_loop (X := (p, l, e, room_1, s, m, #[Value.ref b], below, meth, c, A, D, 600000, 7290000, lw_Z below #[Value.ref b] s)) (h1 := h1) (d1 := d1) (h2 := h2) (d2 := d2) hL ⟨hX, hbl, hbA⟩ (fun lv w C H locs ls hP hD hS hl => va_forget (fun q hq => hAi _ (hS.2.2 q hq)) (lw_ret hx hb hr hlocks dL_law_533)) (L + 1) 1 (by decide) (by omega) (ncl v1) (fun _ => 0) 1 w1 w2 iv1 iv2 ⟨⟨hx, hb, hml, hown, hts⟩, hK1.app hK2, hA, ⟨Nat.le_of_ble_eq_true rfl, Nat.le_of_ble_eq_true rfl⟩, ⟨Nat.le_of_ble_eq_true rfl, Nat.le_of_ble_eq_true rfl⟩, hlocks⟩ H locs ls hP hD hS hLH
end
section
/-! the claim out of the walk (the skeleton's end) -/
set_option maxRecDepth 100000
set_option maxHeartbeats 4000000 in
theorem lw_walk (l : Launch) (b : Addr) (xs : List Int32) : MetFree l x (headSpec (Jvm.Cond.code x code maxLocals ret :: tables_1) room_1) (lw_P b xs) (fun _ _ _ _ _ => True) lw_Q := by
  refine MetFree.of_bodyS (code := code) (maxLocals := maxLocals) (ret := ret) (by decide) ?_ ?_
  · intro args s m h hn
    obtain ⟨meth, c, h1, h2, h3, h4, h5, h6, -, -⟩ := Cond.code_spec hn (atoms_spec (ws := Jvm.Cond.code x code maxLocals ret :: tables_1) h _ List.mem_cons_self)
    exact ⟨meth, c, h1, h2, h3, h4, h5, h6⟩
  · intro p e s m args below meth c s₁ B hml0 hP _
    obtain ⟨rfl, hx, hbd, hgv⟩ := hP
    obtain ⟨scr, harrAt, hlist, hof, hsmall⟩ := hx
    obtain ⟨hcb, hkn, -, -⟩ := State.arrayAt?_spec harrAt
    have hown : s.vm.findClass R_law = some m.cls := findClass_of_methodNamed B.named
    have hts0 : ∀ c ∈ (Jvm.Cond.code x code maxLocals ret :: tables_1), c.before #[Value.ref b] s = true := atoms_spec (ws := Jvm.Cond.code x code maxLocals ret :: tables_1) B.pre
    have hts : ∀ w ∈ lw_tbl, w.before #[Value.ref b] s = true := k2_hts_sels lw_privs (fun w hw => hts0 w (List.mem_cons_of_mem _ hw)) lw_privs_ok
    have hml : c.maxLocals = 4 := B.maxLocals_eq (hts0 _ List.mem_cons_self)
    have X₀ : Stand p l e room_1 s m #[Value.ref b] below meth c s₁ [] 0 0 := Stand.of_body B
    have hh0 : s₁.heap = s.heap := by rw [B.state]; rfl
    have hsz : scr.slots.size = xs.length := by rw [← Array.length_toList, hlist, List.length_map]
    have hval : ∀ j : Nat, j < xs.length → scr.slots[j]? = some (.int (xs.getD j 0)) := fun j hj => by
      rw [← Array.getElem?_toList, hlist]
      simp [hj]
    have hbl : b < s.heap.size := (Array.getElem?_eq_some_iff.mp hcb).1
    have hX : va_X b xs.length (fun j => xs.getD j 0) s s.heap := ⟨scr, hcb, hof, hkn, hsz, hval⟩
    have K : W p l e room_1 s m #[Value.ref b] below meth c s₁.heap [] 0 0 (lw_Z below #[Value.ref b] s) (entryFrame m ([Value.ref b] : List Value).toArray 4) := by
      rw [hh0]
      exact whole_start l hbd ⟨B.exec, B.bytes, B.returns, hml, hown, hts, hX, hbl, B.notSynchronized, hgv⟩
    obtain ⟨t, a1, o, b1, b2, b3⟩ := K s₁ rfl X₀
    exact ⟨t, o, a1, b1, b2, b3⟩
theorem lw_pre_spec {args : Array Value} {s : State} (h : (Jvm.Cond.and given_1 narrow_1).before args s = true) (hr : rest_1_c.before args s = true) : ∃ (b : Addr) (xs : List Int32), lw_P b xs args s := by
  have hs := flat_of_before _ h
  have hq := flat_of_before _ hr
  have hc : (Cond.count 1).before args s = true := hs _ (by decide +kernel)
  have harr : (Cond.arrayOf (.arg 0) .int).before args s = true := hs _ (by decide +kernel)
  have hle : (Cond.le (.length (.arg 0)) (.int 257)).before args s = true := hs _ (by decide +kernel)
  have hlen : (Cond.isInt (.length (.arg 0))).before args s = true := hq _ (by decide +kernel)
  have hall : (Cond.all (.arg 0) (.isInt (.elem (.arg 0) (.index 0)))).before args s = true := hq _ (by decide +kernel)
  obtain ⟨b, xs, hb, hx⟩ := State.ints_of_pre rfl harr hlen hall
  have hsm : xs.length < 2 ^ 31 := hx.choose_spec.2.2.2
  have hev : (Term.length (.arg 0)).eval args s none [] s = some (.int xs.length.toInt32) := hx.length_eval hb
  have hv := Cond.le_ints hev (show (Term.int 257).eval args s none [] s = some (.int 257) from rfl)
  have hd : xs.length.toInt32 ≤ 257 := by
    simpa [Cond.before, Cond.holds, hv] using hle
  have hN : xs.length ≤ 257 := (Int32.ofNat_le_ofNat hsm (by decide)).mp (show Int32.ofNat xs.length ≤ Int32.ofNat 257 from hd)
  exact ⟨b, xs, Cond.one_arg hc (show args[0]? = some (.ref b) from hb), hx, hN, h⟩
theorem lw_comes (l : Launch) : Comes l x (Jvm.Cond.code x code maxLocals ret :: tables_1) room_1 (fun tb e args s => Calls_1 tb e args s ∧ rest_1 tb e args s ∧ Pre_1 tb e args s)
    (fun _ _ args s o t => lw_Q args s o t) := by
  intro p e ha hc hk s m args below hf hfit hheap happ hpre
  obtain ⟨b, xs, hP⟩ := lw_pre_spec hpre.2.2 hpre.2.1
  obtain ⟨k, o, h1, h2, h3, hQ⟩ := lw_walk l b xs p e ha hc hk s m args below hf ((Spec.applies_iff_loose hf).mp happ).1 hP trivial
  exact ⟨k, o, h1, h2, h3, hQ⟩
theorem lw_frame {s t : State} {o : Outcome} {args : Array Value} (h : Framed s o t [] 600000 7290000) :
    Framed s o t (fieldLocs frame_1_writes args s ++ arrayLocs frame_1_arrays args s ++ staticLocs frame_1_statics s) 600000 7290000 := h
theorem lw_limb (L : Cond) (hL : ∀ (args : Array Value) (s t : State), L.after args s (.returned (some (.int 1))) t = true) :
    ArmFor flags0 classFile x code maxLocals ret World_1 tables_1 room_1 Calls_1 rest_1 Pre_1
      (fun tb e a s o t => postC L tb e a s o t ∧ Framed s o t (fieldLocs frame_1_writes a s ++ arrayLocs frame_1_arrays a s ++ staticLocs frame_1_statics s) 600000 7290000) := by
  intro l _ _ _ p e ha hc hk s m args below hf hfit hheap happ hpre
  obtain ⟨k, o, h1, h2, h3, rfl, hF⟩ := lw_comes l p e ha hc hk s m args below hf hfit hheap happ hpre
  exact ⟨k, _, h1, h2, h3, hL args s _, lw_frame hF⟩
theorem i_vc : Claimed_1_1 ∧ Claimed_1_2 := ⟨lw_limb limb_1_1 (fun args s t => by simp [limb_1_1, Cond.after, Cond.holds, Cond.value]), lw_limb limb_1_2 (fun args s t => Cond.after_iff.mpr (by
  first | (rw [show limb_1_2 = Cond.eq .result (.int 1) from rfl, Cond.eq_ints (x := 1) (y := 1) rfl rfl]; simp; done) | (simp [limb_1_2, Cond.value, Term.eval]; done)))⟩
end
